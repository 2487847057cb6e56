section
/-! pure rows to paste: stores, nI and lN arithmetic, masks, shifts, narrowing, branches by naturals (pk_le, pk_lt, pk_eq), loops (lp1 .. lp16: the measure of the state; rp1 ..: recursion), negatives. Take what you need -/
theorem pk_us {f : Nat → Int32} {k : Nat} {x : Int32} : upd f k x k = x := if_pos rfl
theorem pk_un {f : Nat → Int32} {k j : Nat} {x : Int32} (h : j ≠ k) : upd f k x j = f j := if_neg h
theorem pk_uLs {f : Nat → Int64} {k : Nat} {x : Int64} : vp_updL f k x k = x := if_pos rfl
theorem pk_uLn {f : Nat → Int64} {k j : Nat} {x : Int64} (h : j ≠ k) : vp_updL f k x j = f j := if_neg h
theorem pk_sub {a b : Nat} (h : b ≤ a) : nI a - nI b = nI (a - b) := by
  obtain ⟨c, rfl⟩ : ∃ c, a = c + b := ⟨a - b, by omega⟩
  rw [← nI_add, Int32.add_sub_cancel, Nat.add_sub_cancel]
theorem pk_m1 (n : Nat) : nI (n + 1) + (-1) = nI n := by
  rw [← nI_1, Int32.add_assoc, show (1 : Int32) + (-1) = 0 from rfl, Int32.add_zero]
theorem pk_mul (a b : Nat) : nI a * nI b = nI (a * b) := (Int32.ofNat_mul a b).symm
theorem pk_div {a d : Nat} (ha : a < 2 ^ 31) (h0 : 0 < d) (hd : d < 2 ^ 31) : nI a / nI d = nI (a / d) := by
  apply Int32.toInt_inj.mp
  rw [lg_idiv_nonneg (by rw [nI_toInt ha]; omega) (by rw [nI_toInt hd]; omega), nI_toInt ha, nI_toInt hd, nI_toInt (Nat.lt_of_le_of_lt (Nat.div_le_self a d) ha)]
  first | rfl | exact (Int.natCast_ediv _ _).symm
theorem pk_rem {a d : Nat} (ha : a < 2 ^ 31) (h0 : 0 < d) (hd : d < 2 ^ 31) : nI a - nI a / nI d * nI d = nI (a % d) := by
  rw [pk_div ha h0 hd, pk_mul, pk_sub (Nat.div_mul_le_self a d)]
  exact congrArg nI (by have := Nat.div_add_mod' a d; omega)
theorem pk_sub_toInt {a b : Nat} (ha : a < 2 ^ 30) (hb : b < 2 ^ 30) : (nI a - nI b).toInt = (a : Int) - b := by
  rw [Int32.toInt_sub, nI_toInt (by omega), nI_toInt (by omega)]
  exact Int.bmod_eq_of_le (by omega) (by omega)
theorem pk_sneg {a b : Nat} (hb : b < 2 ^ 30) (h : a < b) : nI a - nI b < 0 := by
  rw [Int32.lt_iff_toInt_lt, pk_sub_toInt (by omega) hb, show (0 : Int32).toInt = 0 from by decide]
  omega
theorem pk_ix (x : Int32) {n : Nat} (hn : n < 2 ^ 31) : x < 0 ∨ nI n ≤ x ∨ ∃ j : Nat, j < n ∧ x = nI j := by
  by_cases h : x < 0
  · exact Or.inl h
  · obtain ⟨j, hj, rfl⟩ := nI_of h
    by_cases h2 : j < n
    · exact Or.inr (Or.inr ⟨j, h2, rfl⟩)
    · exact Or.inr (Or.inl (nI_le (by omega) hj))
theorem pk_le {x y : Int32} {A B : Prop} (a b : Nat) (f : a ≤ b → A) (g : b < a → B) (hx : x = nI a := by rfl) (hy : y = nI b := by rfl) (ha : a < 2 ^ 31 := by omega) (hb : b < 2 ^ 31 := by omega) : (x ≤ y → A) ∧ (¬ x ≤ y → B) := by
  subst hx hy
  rw [nI_leI ha hb]
  exact ⟨f, fun z => g (by omega)⟩
theorem pk_lt {x y : Int32} {A B : Prop} (a b : Nat) (f : a < b → A) (g : b ≤ a → B) (hx : x = nI a := by rfl) (hy : y = nI b := by rfl) (ha : a < 2 ^ 31 := by omega) (hb : b < 2 ^ 31 := by omega) : (x < y → A) ∧ (¬ x < y → B) := by
  subst hx hy
  rw [nI_ltI ha hb]
  exact ⟨f, fun z => g (by omega)⟩
theorem pk_eq {x y : Int32} {A B : Prop} (a b : Nat) (f : a = b → A) (g : a ≠ b → B) (hx : x = nI a := by rfl) (hy : y = nI b := by rfl) (ha : a < 2 ^ 31 := by omega) (hb : b < 2 ^ 31 := by omega) : (x = y → A) ∧ (¬ x = y → B) := by
  subst hx hy
  rw [nI_eq ha hb]
  exact ⟨f, g⟩
theorem pk_in {x : Int32} (n N : Nat) (h : n < N) (hx : x = nI n := by rfl) (hN : N < 2 ^ 31 := by omega) : vp_in x N := by
  subst hx
  exact vp_in_nI h hN
theorem pk_cl {x : Int32} (n : Nat) (hx : x = nI n := by rfl) (h : n < 2 ^ 31 := by omega) : x.toNatClampNeg = n := by
  subst hx
  exact nI_clamp h
theorem pk_tn {n : Nat} (h : n < 2 ^ 32) : (nI n).toBitVec.toNat = n := Nat.mod_eq_of_lt h
theorem pk_and (x : Int32) {m : Int32} (k : Nat) (hm : m.toBitVec.toNat = 2 ^ k - 1) : x &&& m = nI (x.toBitVec.toNat % 2 ^ k) := by
  apply Int32.toBitVec_inj.mp
  apply BitVec.eq_of_toNat_eq
  rw [Int32.toBitVec_and, BitVec.toNat_and, hm, Nat.and_two_pow_sub_one_eq_mod]
  show _ = (BitVec.ofNat 32 _).toNat
  rw [BitVec.toNat_ofNat]
  exact (Nat.mod_eq_of_lt (Nat.lt_of_le_of_lt (Nat.mod_le _ _) x.toBitVec.isLt)).symm
theorem pk_andN {n : Nat} (h : n < 2 ^ 32) {m : Int32} (k : Nat) (hm : m.toBitVec.toNat = 2 ^ k - 1) : nI n &&& m = nI (n % 2 ^ k) := by
  rw [pk_and _ k hm, pk_tn h]
theorem pk_andE (x : Int32) {m : Int32} (k : Nat) (hm : m.toBitVec.toNat = 2 ^ k - 1) : ∃ j : Nat, j < 2 ^ k ∧ x &&& m = nI j := ⟨_, Nat.mod_lt _ (Nat.two_pow_pos k), pk_and x k hm⟩
theorem pk_andIn (x : Int32) {m : Int32} (k : Nat) (hm : m.toBitVec.toNat = 2 ^ k - 1) (hk : k ≤ 30) : vp_in (x &&& m) (2 ^ k) := by
  obtain ⟨j, hj, e⟩ := pk_andE x k hm
  rw [e]
  exact vp_in_nI hj (Nat.lt_of_le_of_lt (Nat.pow_le_pow_right (by decide) hk) (by decide))
theorem pk_shl (a s : Int32) (k : Nat) (hs : (s.toBitVec.smod 32).toNat = k) : (a <<< s).toBitVec.toNat = a.toBitVec.toNat * 2 ^ k % 2 ^ 32 := by
  show (a.toBitVec <<< (s.toBitVec.smod 32).toNat).toNat = _
  rw [hs, BitVec.toNat_shiftLeft, Nat.shiftLeft_eq]
theorem pk_shlN {n : Nat} (s : Int32) (k : Nat) (hs : (s.toBitVec.smod 32).toNat = k) (h : n * 2 ^ k < 2 ^ 32) : nI n <<< s = nI (n * 2 ^ k) := by
  apply Int32.toBitVec_inj.mp
  apply BitVec.eq_of_toNat_eq
  have hn : n < 2 ^ 32 := Nat.lt_of_le_of_lt (Nat.le_mul_of_pos_right n (Nat.two_pow_pos k)) h
  rw [pk_shl _ _ k hs, pk_tn hn, pk_tn h, Nat.mod_eq_of_lt h]
theorem pk_shr (a s : Int32) (k : Nat) (hs : (s.toBitVec.smod 32).toNat = k) : (a >>> s).toInt = a.toInt >>> k := by
  show (a.toBitVec.sshiftRight (s.toBitVec.smod 32).toNat).toInt = _
  rw [hs, BitVec.toInt_sshiftRight]
  rfl
theorem pk_shrN {n : Nat} (h : n < 2 ^ 31) (s : Int32) (k : Nat) (hs : (s.toBitVec.smod 32).toNat = k) : nI n >>> s = nI (n / 2 ^ k) := by
  apply Int32.toInt_inj.mp
  have h2 : n / 2 ^ k ≤ n := Nat.div_le_self _ _
  rw [pk_shr _ _ k hs, nI_toInt h, nI_toInt (by omega), Int.shiftRight_eq_div_pow]
  rfl
theorem pk_ushr (x s : Int32) (k : Nat) (hs : ((s.toUInt32 &&& Int32.toUInt32 31).toBitVec % 32).toNat = k) : (x.toUInt32 >>> (s.toUInt32 &&& Int32.toUInt32 31)).toInt32.toBitVec.toNat = x.toBitVec.toNat / 2 ^ k := by
  have e : (x.toUInt32 >>> (s.toUInt32 &&& Int32.toUInt32 31)).toInt32.toBitVec = x.toBitVec >>> k := by
    rw [← hs]
    exact UInt32.toBitVec_shiftRight _ _
  rw [e, BitVec.toNat_ushiftRight, Nat.shiftRight_eq_div_pow]
theorem pk_ushrN {n : Nat} (hn : n < 2 ^ 32) (s : Int32) (k : Nat) (hs : ((s.toUInt32 &&& Int32.toUInt32 31).toBitVec % 32).toNat = k) : ((nI n).toUInt32 >>> (s.toUInt32 &&& Int32.toUInt32 31)).toInt32 = nI (n / 2 ^ k) := by
  apply Int32.toBitVec_inj.mp
  apply BitVec.eq_of_toNat_eq
  rw [pk_ushr _ s k hs, pk_tn hn, pk_tn (Nat.lt_of_le_of_lt (Nat.div_le_self _ _) hn)]
theorem pk_nb (z : Int32) : narrow .byte (.int z.toInt8.toInt32) = .int z.toInt8.toInt32 := congrArg Value.int (by simp)
theorem pk_ns (z : Int32) : narrow .short (.int z.toInt16.toInt32) = .int z.toInt16.toInt32 := congrArg Value.int (by simp)
theorem pk_fb (r : Int32) : fits .byte (.int r.toInt8.toInt32) = true := by
  have ⟨a, b⟩ := lg_i2b_range r
  have h1 : (-128 : Int32).toInt = -128 := by decide
  have h2 : (127 : Int32).toInt = 127 := by decide
  simp only [fits, Bool.and_eq_true, decide_eq_true_eq, Int32.le_iff_toInt_le, h1, h2]
  omega
theorem pk_fs (r : Int32) : fits .short (.int r.toInt16.toInt32) = true := by
  have ⟨a, b⟩ := lg_i2s_range r
  have h1 : (-32768 : Int32).toInt = -32768 := by decide
  have h2 : (32767 : Int32).toInt = 32767 := by decide
  simp only [fits, Bool.and_eq_true, decide_eq_true_eq, Int32.le_iff_toInt_le, h1, h2]
  omega
theorem pk_charN {q : Nat} (hq : q < 65536) : narrow .char (.int (nI q)) = .int (nI q) ∧ fits .char (.int (nI q)) = true := by
  constructor
  · have e : (nI q).toUInt32.toUInt16.toUInt32.toInt32 = nI q := by
      apply Int32.toBitVec_inj.mp
      apply BitVec.eq_of_toNat_eq
      show (nI q).toUInt32.toUInt16.toUInt32.toNat = q % 2 ^ 32
      rw [UInt16.toNat_toUInt32, UInt32.toNat_toUInt16, show (nI q).toUInt32.toNat = q % 2 ^ 32 from rfl]
      omega
    exact congrArg Value.int e
  · have a : (0 : Int32) ≤ nI q := nI_pos' (by omega)
    have b : nI q ≤ 65535 := nI_le (b := 65535) (by omega) (by decide)
    show (decide ((0 : Int32) ≤ nI q) && decide (nI q ≤ 65535)) = true
    rw [decide_eq_true a, decide_eq_true b]
    rfl
theorem pk_char (x : Int32) : (x.toUInt32 % 65536).toInt32 = nI (x.toBitVec.toNat % 65536) := by
  apply Int32.toBitVec_inj.mp
  apply BitVec.eq_of_toNat_eq
  rw [pk_tn (by omega)]
  show (x.toUInt32 % 65536).toNat = _
  rw [UInt32.toNat_mod]
  rfl
theorem pk_nc (x : Int32) : narrow .char (.int (x.toUInt32 % 65536).toInt32) = .int (x.toUInt32 % 65536).toInt32 := by
  rw [pk_char]
  exact (pk_charN (Nat.mod_lt _ (by decide))).1
theorem pk_fc (x : Int32) : fits .char (.int (x.toUInt32 % 65536).toInt32) = true := by
  rw [pk_char]
  exact (pk_charN (Nat.mod_lt _ (by decide))).2
theorem pk_vb (z : Int32) : vp_nar .byte z.toInt8.toInt32 = z.toInt8.toInt32 := by rw [vp_nar_byte]; simp
theorem pk_vs (z : Int32) : vp_nar .short z.toInt16.toInt32 = z.toInt16.toInt32 := by rw [vp_nar_short]; simp
theorem pk_vc (z : Int32) : vp_nar .char (z.toUInt32 % 65536).toInt32 = (z.toUInt32 % 65536).toInt32 := Value.int.inj (pk_nc z)
theorem pk_lT {n : Nat} (h : n < 2 ^ 63) : (lN n).toInt = (n : Int) := lg_ofNat_toInt h
theorem pk_lLT {a b : Nat} (ha : a < 2 ^ 63) (hb : b < 2 ^ 63) : lN a < lN b ↔ a < b := by
  rw [Int64.lt_iff_toInt_lt, pk_lT ha, pk_lT hb]; omega
theorem pk_lLE {a b : Nat} (ha : a < 2 ^ 63) (hb : b < 2 ^ 63) : lN a ≤ lN b ↔ a ≤ b := by
  rw [Int64.le_iff_toInt_le, pk_lT ha, pk_lT hb]; omega
theorem pk_lEQ {a b : Nat} (ha : a < 2 ^ 63) (hb : b < 2 ^ 63) : lN a = lN b ↔ a = b := by
  rw [← Int64.toInt_inj, pk_lT ha, pk_lT hb]; omega
theorem pk_lOf {x : Int64} (h : ¬ x < 0) : ∃ k : Nat, k < 2 ^ 63 ∧ x = lN k := by
  rw [Int64.lt_iff_toInt_lt] at h
  have h0 : (0 : Int64).toInt = 0 := by decide
  have hx := Int64.toInt_lt x
  refine ⟨x.toInt.toNat, by omega, Int64.toInt_inj.mp ?_⟩
  rw [pk_lT (by omega)]
  omega
theorem pk_lDiv {a b : Nat} (ha : a < 2 ^ 63) (h0 : 0 < b) (hb : b < 2 ^ 63) : lN a / lN b = lN (a / b) := by
  apply Int64.toInt_inj.mp
  rw [lg_ldiv_nonneg (by rw [pk_lT ha]; omega) (by rw [pk_lT hb]; omega), pk_lT ha, pk_lT hb, pk_lT (Nat.lt_of_le_of_lt (Nat.div_le_self a b) ha)]
  rfl
theorem pk_lRem {a b : Nat} (ha : a < 2 ^ 63) (h0 : 0 < b) (hb : b < 2 ^ 63) : lN a - lN a / lN b * lN b = lN (a % b) := by
  rw [pk_lDiv ha h0 hb, lN_mul, lN_sub (Nat.div_mul_le_self a b)]
  exact congrArg lN (by have := Nat.div_add_mod' a b; omega)
theorem pk_loop {σ : Type} (W : Nat → Nat → σ → Prop) (I : Nat → σ → Prop) (e i0 : Nat) (s : σ) (hi : i0 ≤ e) (h0 : I i0 s) (hx : ∀ n s, I e s → W (n + 1) e s)
    (hs : ∀ n i s, i < e → I i s → (∀ s', I (i + 1) s' → W n (i + 1) s') → W (n + 1) i s) : ∃ n, W n i0 s :=
  ⟨e + 1, loop_i W I e hx hs (e + 1) i0 s hi (by omega) h0⟩
theorem pk_loopD {σ : Type} (W : Nat → Nat → σ → Prop) (I : Nat → σ → Prop) (hx : ∀ n s, I 0 s → W (n + 1) 0 s)
    (hs : ∀ n i s, I (i + 1) s → (∀ s', I i s' → W n i s') → W (n + 1) (i + 1) s) : ∀ (e : Nat) (s : σ), I e s → W (e + 1) e s := by
  intro e
  induction e with
  | zero => exact fun s h => hx 0 s h
  | succ e ih => exact fun s h => hs (e + 1) e s h (fun s' h' => ih s' h')
theorem lp1 {A1 : Type} (W : Nat → A1 → Prop) (I : A1 → Prop) (μ : A1 → Nat) (hs : ∀ (n : Nat) (a1 : A1), I a1 → (∀ (b1 : A1), I b1 → μ b1 < μ a1 → W n b1) → W (n + 1) a1) (a1 : A1) (h : I a1) : ∃ n, W n a1 :=
  loop_m (σ := A1) (fun n s => W n s) (fun s => I s) (fun s => μ s) (fun n s hI hk => hs n s hI (fun b1 h9 hm => hk b1 h9 hm)) a1 h
theorem lp2 {A1 A2 : Type} (W : Nat → A1 → A2 → Prop) (I : A1 → A2 → Prop) (μ : A1 → A2 → Nat) (hs : ∀ (n : Nat) (a1 : A1) (a2 : A2), I a1 a2 → (∀ (b1 : A1) (b2 : A2), I b1 b2 → μ b1 b2 < μ a1 a2 → W n b1 b2) → W (n + 1) a1 a2) (a1 : A1) (a2 : A2) (h : I a1 a2) : ∃ n, W n a1 a2 :=
  loop_m (σ := A1 × A2) (fun n s => W n s.1 s.2) (fun s => I s.1 s.2) (fun s => μ s.1 s.2) (fun n s hI hk => hs n s.1 s.2 hI (fun b1 b2 h9 hm => hk (b1, b2) h9 hm)) (a1, a2) h
theorem lp3 {A1 A2 A3 : Type} (W : Nat → A1 → A2 → A3 → Prop) (I : A1 → A2 → A3 → Prop) (μ : A1 → A2 → A3 → Nat) (hs : ∀ (n : Nat) (a1 : A1) (a2 : A2) (a3 : A3), I a1 a2 a3 → (∀ (b1 : A1) (b2 : A2) (b3 : A3), I b1 b2 b3 → μ b1 b2 b3 < μ a1 a2 a3 → W n b1 b2 b3) → W (n + 1) a1 a2 a3) (a1 : A1) (a2 : A2) (a3 : A3) (h : I a1 a2 a3) : ∃ n, W n a1 a2 a3 :=
  loop_m (σ := A1 × A2 × A3) (fun n s => W n s.1 s.2.1 s.2.2) (fun s => I s.1 s.2.1 s.2.2) (fun s => μ s.1 s.2.1 s.2.2) (fun n s hI hk => hs n s.1 s.2.1 s.2.2 hI (fun b1 b2 b3 h9 hm => hk (b1, b2, b3) h9 hm)) (a1, a2, a3) h
theorem lp4 {A1 A2 A3 A4 : Type} (W : Nat → A1 → A2 → A3 → A4 → Prop) (I : A1 → A2 → A3 → A4 → Prop) (μ : A1 → A2 → A3 → A4 → Nat) (hs : ∀ (n : Nat) (a1 : A1) (a2 : A2) (a3 : A3) (a4 : A4), I a1 a2 a3 a4 → (∀ (b1 : A1) (b2 : A2) (b3 : A3) (b4 : A4), I b1 b2 b3 b4 → μ b1 b2 b3 b4 < μ a1 a2 a3 a4 → W n b1 b2 b3 b4) → W (n + 1) a1 a2 a3 a4) (a1 : A1) (a2 : A2) (a3 : A3) (a4 : A4) (h : I a1 a2 a3 a4) : ∃ n, W n a1 a2 a3 a4 :=
  loop_m (σ := A1 × A2 × A3 × A4) (fun n s => W n s.1 s.2.1 s.2.2.1 s.2.2.2) (fun s => I s.1 s.2.1 s.2.2.1 s.2.2.2) (fun s => μ s.1 s.2.1 s.2.2.1 s.2.2.2) (fun n s hI hk => hs n s.1 s.2.1 s.2.2.1 s.2.2.2 hI (fun b1 b2 b3 b4 h9 hm => hk (b1, b2, b3, b4) h9 hm)) (a1, a2, a3, a4) h
theorem lp5 {A1 A2 A3 A4 A5 : Type} (W : Nat → A1 → A2 → A3 → A4 → A5 → Prop) (I : A1 → A2 → A3 → A4 → A5 → Prop) (μ : A1 → A2 → A3 → A4 → A5 → Nat) (hs : ∀ (n : Nat) (a1 : A1) (a2 : A2) (a3 : A3) (a4 : A4) (a5 : A5), I a1 a2 a3 a4 a5 → (∀ (b1 : A1) (b2 : A2) (b3 : A3) (b4 : A4) (b5 : A5), I b1 b2 b3 b4 b5 → μ b1 b2 b3 b4 b5 < μ a1 a2 a3 a4 a5 → W n b1 b2 b3 b4 b5) → W (n + 1) a1 a2 a3 a4 a5) (a1 : A1) (a2 : A2) (a3 : A3) (a4 : A4) (a5 : A5) (h : I a1 a2 a3 a4 a5) : ∃ n, W n a1 a2 a3 a4 a5 :=
  loop_m (σ := A1 × A2 × A3 × A4 × A5) (fun n s => W n s.1 s.2.1 s.2.2.1 s.2.2.2.1 s.2.2.2.2) (fun s => I s.1 s.2.1 s.2.2.1 s.2.2.2.1 s.2.2.2.2) (fun s => μ s.1 s.2.1 s.2.2.1 s.2.2.2.1 s.2.2.2.2) (fun n s hI hk => hs n s.1 s.2.1 s.2.2.1 s.2.2.2.1 s.2.2.2.2 hI (fun b1 b2 b3 b4 b5 h9 hm => hk (b1, b2, b3, b4, b5) h9 hm)) (a1, a2, a3, a4, a5) h
theorem lp6 {A1 A2 A3 A4 A5 A6 : Type} (W : Nat → A1 → A2 → A3 → A4 → A5 → A6 → Prop) (I : A1 → A2 → A3 → A4 → A5 → A6 → Prop) (μ : A1 → A2 → A3 → A4 → A5 → A6 → Nat) (hs : ∀ (n : Nat) (a1 : A1) (a2 : A2) (a3 : A3) (a4 : A4) (a5 : A5) (a6 : A6), I a1 a2 a3 a4 a5 a6 → (∀ (b1 : A1) (b2 : A2) (b3 : A3) (b4 : A4) (b5 : A5) (b6 : A6), I b1 b2 b3 b4 b5 b6 → μ b1 b2 b3 b4 b5 b6 < μ a1 a2 a3 a4 a5 a6 → W n b1 b2 b3 b4 b5 b6) → W (n + 1) a1 a2 a3 a4 a5 a6) (a1 : A1) (a2 : A2) (a3 : A3) (a4 : A4) (a5 : A5) (a6 : A6) (h : I a1 a2 a3 a4 a5 a6) : ∃ n, W n a1 a2 a3 a4 a5 a6 :=
  loop_m (σ := A1 × A2 × A3 × A4 × A5 × A6) (fun n s => W n s.1 s.2.1 s.2.2.1 s.2.2.2.1 s.2.2.2.2.1 s.2.2.2.2.2) (fun s => I s.1 s.2.1 s.2.2.1 s.2.2.2.1 s.2.2.2.2.1 s.2.2.2.2.2) (fun s => μ s.1 s.2.1 s.2.2.1 s.2.2.2.1 s.2.2.2.2.1 s.2.2.2.2.2) (fun n s hI hk => hs n s.1 s.2.1 s.2.2.1 s.2.2.2.1 s.2.2.2.2.1 s.2.2.2.2.2 hI (fun b1 b2 b3 b4 b5 b6 h9 hm => hk (b1, b2, b3, b4, b5, b6) h9 hm)) (a1, a2, a3, a4, a5, a6) h
theorem lp7 {A1 A2 A3 A4 A5 A6 A7 : Type} (W : Nat → A1 → A2 → A3 → A4 → A5 → A6 → A7 → Prop) (I : A1 → A2 → A3 → A4 → A5 → A6 → A7 → Prop) (μ : A1 → A2 → A3 → A4 → A5 → A6 → A7 → Nat) (hs : ∀ (n : Nat) (a1 : A1) (a2 : A2) (a3 : A3) (a4 : A4) (a5 : A5) (a6 : A6) (a7 : A7), I a1 a2 a3 a4 a5 a6 a7 → (∀ (b1 : A1) (b2 : A2) (b3 : A3) (b4 : A4) (b5 : A5) (b6 : A6) (b7 : A7), I b1 b2 b3 b4 b5 b6 b7 → μ b1 b2 b3 b4 b5 b6 b7 < μ a1 a2 a3 a4 a5 a6 a7 → W n b1 b2 b3 b4 b5 b6 b7) → W (n + 1) a1 a2 a3 a4 a5 a6 a7) (a1 : A1) (a2 : A2) (a3 : A3) (a4 : A4) (a5 : A5) (a6 : A6) (a7 : A7) (h : I a1 a2 a3 a4 a5 a6 a7) : ∃ n, W n a1 a2 a3 a4 a5 a6 a7 :=
  loop_m (σ := A1 × A2 × A3 × A4 × A5 × A6 × A7) (fun n s => W n s.1 s.2.1 s.2.2.1 s.2.2.2.1 s.2.2.2.2.1 s.2.2.2.2.2.1 s.2.2.2.2.2.2) (fun s => I s.1 s.2.1 s.2.2.1 s.2.2.2.1 s.2.2.2.2.1 s.2.2.2.2.2.1 s.2.2.2.2.2.2) (fun s => μ s.1 s.2.1 s.2.2.1 s.2.2.2.1 s.2.2.2.2.1 s.2.2.2.2.2.1 s.2.2.2.2.2.2) (fun n s hI hk => hs n s.1 s.2.1 s.2.2.1 s.2.2.2.1 s.2.2.2.2.1 s.2.2.2.2.2.1 s.2.2.2.2.2.2 hI (fun b1 b2 b3 b4 b5 b6 b7 h9 hm => hk (b1, b2, b3, b4, b5, b6, b7) h9 hm)) (a1, a2, a3, a4, a5, a6, a7) h
theorem lp8 {A1 A2 A3 A4 A5 A6 A7 A8 : Type} (W : Nat → A1 → A2 → A3 → A4 → A5 → A6 → A7 → A8 → Prop) (I : A1 → A2 → A3 → A4 → A5 → A6 → A7 → A8 → Prop) (μ : A1 → A2 → A3 → A4 → A5 → A6 → A7 → A8 → Nat) (hs : ∀ (n : Nat) (a1 : A1) (a2 : A2) (a3 : A3) (a4 : A4) (a5 : A5) (a6 : A6) (a7 : A7) (a8 : A8), I a1 a2 a3 a4 a5 a6 a7 a8 → (∀ (b1 : A1) (b2 : A2) (b3 : A3) (b4 : A4) (b5 : A5) (b6 : A6) (b7 : A7) (b8 : A8), I b1 b2 b3 b4 b5 b6 b7 b8 → μ b1 b2 b3 b4 b5 b6 b7 b8 < μ a1 a2 a3 a4 a5 a6 a7 a8 → W n b1 b2 b3 b4 b5 b6 b7 b8) → W (n + 1) a1 a2 a3 a4 a5 a6 a7 a8) (a1 : A1) (a2 : A2) (a3 : A3) (a4 : A4) (a5 : A5) (a6 : A6) (a7 : A7) (a8 : A8) (h : I a1 a2 a3 a4 a5 a6 a7 a8) : ∃ n, W n a1 a2 a3 a4 a5 a6 a7 a8 :=
  loop_m (σ := A1 × A2 × A3 × A4 × A5 × A6 × A7 × A8) (fun n s => W n s.1 s.2.1 s.2.2.1 s.2.2.2.1 s.2.2.2.2.1 s.2.2.2.2.2.1 s.2.2.2.2.2.2.1 s.2.2.2.2.2.2.2) (fun s => I s.1 s.2.1 s.2.2.1 s.2.2.2.1 s.2.2.2.2.1 s.2.2.2.2.2.1 s.2.2.2.2.2.2.1 s.2.2.2.2.2.2.2) (fun s => μ s.1 s.2.1 s.2.2.1 s.2.2.2.1 s.2.2.2.2.1 s.2.2.2.2.2.1 s.2.2.2.2.2.2.1 s.2.2.2.2.2.2.2) (fun n s hI hk => hs n s.1 s.2.1 s.2.2.1 s.2.2.2.1 s.2.2.2.2.1 s.2.2.2.2.2.1 s.2.2.2.2.2.2.1 s.2.2.2.2.2.2.2 hI (fun b1 b2 b3 b4 b5 b6 b7 b8 h9 hm => hk (b1, b2, b3, b4, b5, b6, b7, b8) h9 hm)) (a1, a2, a3, a4, a5, a6, a7, a8) h
theorem lp9 {A1 A2 A3 A4 A5 A6 A7 A8 A9 : Type} (W : Nat → A1 → A2 → A3 → A4 → A5 → A6 → A7 → A8 → A9 → Prop) (I : A1 → A2 → A3 → A4 → A5 → A6 → A7 → A8 → A9 → Prop) (μ : A1 → A2 → A3 → A4 → A5 → A6 → A7 → A8 → A9 → Nat) (hs : ∀ (n : Nat) (a1 : A1) (a2 : A2) (a3 : A3) (a4 : A4) (a5 : A5) (a6 : A6) (a7 : A7) (a8 : A8) (a9 : A9), I a1 a2 a3 a4 a5 a6 a7 a8 a9 → (∀ (b1 : A1) (b2 : A2) (b3 : A3) (b4 : A4) (b5 : A5) (b6 : A6) (b7 : A7) (b8 : A8) (b9 : A9), I b1 b2 b3 b4 b5 b6 b7 b8 b9 → μ b1 b2 b3 b4 b5 b6 b7 b8 b9 < μ a1 a2 a3 a4 a5 a6 a7 a8 a9 → W n b1 b2 b3 b4 b5 b6 b7 b8 b9) → W (n + 1) a1 a2 a3 a4 a5 a6 a7 a8 a9) (a1 : A1) (a2 : A2) (a3 : A3) (a4 : A4) (a5 : A5) (a6 : A6) (a7 : A7) (a8 : A8) (a9 : A9) (h : I a1 a2 a3 a4 a5 a6 a7 a8 a9) : ∃ n, W n a1 a2 a3 a4 a5 a6 a7 a8 a9 :=
  loop_m (σ := A1 × A2 × A3 × A4 × A5 × A6 × A7 × A8 × A9) (fun n s => W n s.1 s.2.1 s.2.2.1 s.2.2.2.1 s.2.2.2.2.1 s.2.2.2.2.2.1 s.2.2.2.2.2.2.1 s.2.2.2.2.2.2.2.1 s.2.2.2.2.2.2.2.2) (fun s => I s.1 s.2.1 s.2.2.1 s.2.2.2.1 s.2.2.2.2.1 s.2.2.2.2.2.1 s.2.2.2.2.2.2.1 s.2.2.2.2.2.2.2.1 s.2.2.2.2.2.2.2.2) (fun s => μ s.1 s.2.1 s.2.2.1 s.2.2.2.1 s.2.2.2.2.1 s.2.2.2.2.2.1 s.2.2.2.2.2.2.1 s.2.2.2.2.2.2.2.1 s.2.2.2.2.2.2.2.2) (fun n s hI hk => hs n s.1 s.2.1 s.2.2.1 s.2.2.2.1 s.2.2.2.2.1 s.2.2.2.2.2.1 s.2.2.2.2.2.2.1 s.2.2.2.2.2.2.2.1 s.2.2.2.2.2.2.2.2 hI (fun b1 b2 b3 b4 b5 b6 b7 b8 b9 h9 hm => hk (b1, b2, b3, b4, b5, b6, b7, b8, b9) h9 hm)) (a1, a2, a3, a4, a5, a6, a7, a8, a9) h
theorem lp10 {A1 A2 A3 A4 A5 A6 A7 A8 A9 A10 : Type} (W : Nat → A1 → A2 → A3 → A4 → A5 → A6 → A7 → A8 → A9 → A10 → Prop) (I : A1 → A2 → A3 → A4 → A5 → A6 → A7 → A8 → A9 → A10 → Prop) (μ : A1 → A2 → A3 → A4 → A5 → A6 → A7 → A8 → A9 → A10 → Nat) (hs : ∀ (n : Nat) (a1 : A1) (a2 : A2) (a3 : A3) (a4 : A4) (a5 : A5) (a6 : A6) (a7 : A7) (a8 : A8) (a9 : A9) (a10 : A10), I a1 a2 a3 a4 a5 a6 a7 a8 a9 a10 → (∀ (b1 : A1) (b2 : A2) (b3 : A3) (b4 : A4) (b5 : A5) (b6 : A6) (b7 : A7) (b8 : A8) (b9 : A9) (b10 : A10), I b1 b2 b3 b4 b5 b6 b7 b8 b9 b10 → μ b1 b2 b3 b4 b5 b6 b7 b8 b9 b10 < μ a1 a2 a3 a4 a5 a6 a7 a8 a9 a10 → W n b1 b2 b3 b4 b5 b6 b7 b8 b9 b10) → W (n + 1) a1 a2 a3 a4 a5 a6 a7 a8 a9 a10) (a1 : A1) (a2 : A2) (a3 : A3) (a4 : A4) (a5 : A5) (a6 : A6) (a7 : A7) (a8 : A8) (a9 : A9) (a10 : A10) (h : I a1 a2 a3 a4 a5 a6 a7 a8 a9 a10) : ∃ n, W n a1 a2 a3 a4 a5 a6 a7 a8 a9 a10 :=
  loop_m (σ := A1 × A2 × A3 × A4 × A5 × A6 × A7 × A8 × A9 × A10) (fun n s => W n s.1 s.2.1 s.2.2.1 s.2.2.2.1 s.2.2.2.2.1 s.2.2.2.2.2.1 s.2.2.2.2.2.2.1 s.2.2.2.2.2.2.2.1 s.2.2.2.2.2.2.2.2.1 s.2.2.2.2.2.2.2.2.2) (fun s => I s.1 s.2.1 s.2.2.1 s.2.2.2.1 s.2.2.2.2.1 s.2.2.2.2.2.1 s.2.2.2.2.2.2.1 s.2.2.2.2.2.2.2.1 s.2.2.2.2.2.2.2.2.1 s.2.2.2.2.2.2.2.2.2) (fun s => μ s.1 s.2.1 s.2.2.1 s.2.2.2.1 s.2.2.2.2.1 s.2.2.2.2.2.1 s.2.2.2.2.2.2.1 s.2.2.2.2.2.2.2.1 s.2.2.2.2.2.2.2.2.1 s.2.2.2.2.2.2.2.2.2) (fun n s hI hk => hs n s.1 s.2.1 s.2.2.1 s.2.2.2.1 s.2.2.2.2.1 s.2.2.2.2.2.1 s.2.2.2.2.2.2.1 s.2.2.2.2.2.2.2.1 s.2.2.2.2.2.2.2.2.1 s.2.2.2.2.2.2.2.2.2 hI (fun b1 b2 b3 b4 b5 b6 b7 b8 b9 b10 h9 hm => hk (b1, b2, b3, b4, b5, b6, b7, b8, b9, b10) h9 hm)) (a1, a2, a3, a4, a5, a6, a7, a8, a9, a10) h
theorem lp11 {A1 A2 A3 A4 A5 A6 A7 A8 A9 A10 A11 : Type} (W : Nat → A1 → A2 → A3 → A4 → A5 → A6 → A7 → A8 → A9 → A10 → A11 → Prop) (I : A1 → A2 → A3 → A4 → A5 → A6 → A7 → A8 → A9 → A10 → A11 → Prop) (μ : A1 → A2 → A3 → A4 → A5 → A6 → A7 → A8 → A9 → A10 → A11 → Nat) (hs : ∀ (n : Nat) (a1 : A1) (a2 : A2) (a3 : A3) (a4 : A4) (a5 : A5) (a6 : A6) (a7 : A7) (a8 : A8) (a9 : A9) (a10 : A10) (a11 : A11), I a1 a2 a3 a4 a5 a6 a7 a8 a9 a10 a11 → (∀ (b1 : A1) (b2 : A2) (b3 : A3) (b4 : A4) (b5 : A5) (b6 : A6) (b7 : A7) (b8 : A8) (b9 : A9) (b10 : A10) (b11 : A11), I b1 b2 b3 b4 b5 b6 b7 b8 b9 b10 b11 → μ b1 b2 b3 b4 b5 b6 b7 b8 b9 b10 b11 < μ a1 a2 a3 a4 a5 a6 a7 a8 a9 a10 a11 → W n b1 b2 b3 b4 b5 b6 b7 b8 b9 b10 b11) → W (n + 1) a1 a2 a3 a4 a5 a6 a7 a8 a9 a10 a11) (a1 : A1) (a2 : A2) (a3 : A3) (a4 : A4) (a5 : A5) (a6 : A6) (a7 : A7) (a8 : A8) (a9 : A9) (a10 : A10) (a11 : A11) (h : I a1 a2 a3 a4 a5 a6 a7 a8 a9 a10 a11) : ∃ n, W n a1 a2 a3 a4 a5 a6 a7 a8 a9 a10 a11 :=
  loop_m (σ := A1 × A2 × A3 × A4 × A5 × A6 × A7 × A8 × A9 × A10 × A11) (fun n s => W n s.1 s.2.1 s.2.2.1 s.2.2.2.1 s.2.2.2.2.1 s.2.2.2.2.2.1 s.2.2.2.2.2.2.1 s.2.2.2.2.2.2.2.1 s.2.2.2.2.2.2.2.2.1 s.2.2.2.2.2.2.2.2.2.1 s.2.2.2.2.2.2.2.2.2.2) (fun s => I s.1 s.2.1 s.2.2.1 s.2.2.2.1 s.2.2.2.2.1 s.2.2.2.2.2.1 s.2.2.2.2.2.2.1 s.2.2.2.2.2.2.2.1 s.2.2.2.2.2.2.2.2.1 s.2.2.2.2.2.2.2.2.2.1 s.2.2.2.2.2.2.2.2.2.2) (fun s => μ s.1 s.2.1 s.2.2.1 s.2.2.2.1 s.2.2.2.2.1 s.2.2.2.2.2.1 s.2.2.2.2.2.2.1 s.2.2.2.2.2.2.2.1 s.2.2.2.2.2.2.2.2.1 s.2.2.2.2.2.2.2.2.2.1 s.2.2.2.2.2.2.2.2.2.2) (fun n s hI hk => hs n s.1 s.2.1 s.2.2.1 s.2.2.2.1 s.2.2.2.2.1 s.2.2.2.2.2.1 s.2.2.2.2.2.2.1 s.2.2.2.2.2.2.2.1 s.2.2.2.2.2.2.2.2.1 s.2.2.2.2.2.2.2.2.2.1 s.2.2.2.2.2.2.2.2.2.2 hI (fun b1 b2 b3 b4 b5 b6 b7 b8 b9 b10 b11 h9 hm => hk (b1, b2, b3, b4, b5, b6, b7, b8, b9, b10, b11) h9 hm)) (a1, a2, a3, a4, a5, a6, a7, a8, a9, a10, a11) h
theorem lp12 {A1 A2 A3 A4 A5 A6 A7 A8 A9 A10 A11 A12 : Type} (W : Nat → A1 → A2 → A3 → A4 → A5 → A6 → A7 → A8 → A9 → A10 → A11 → A12 → Prop) (I : A1 → A2 → A3 → A4 → A5 → A6 → A7 → A8 → A9 → A10 → A11 → A12 → Prop) (μ : A1 → A2 → A3 → A4 → A5 → A6 → A7 → A8 → A9 → A10 → A11 → A12 → Nat) (hs : ∀ (n : Nat) (a1 : A1) (a2 : A2) (a3 : A3) (a4 : A4) (a5 : A5) (a6 : A6) (a7 : A7) (a8 : A8) (a9 : A9) (a10 : A10) (a11 : A11) (a12 : A12), I a1 a2 a3 a4 a5 a6 a7 a8 a9 a10 a11 a12 → (∀ (b1 : A1) (b2 : A2) (b3 : A3) (b4 : A4) (b5 : A5) (b6 : A6) (b7 : A7) (b8 : A8) (b9 : A9) (b10 : A10) (b11 : A11) (b12 : A12), I b1 b2 b3 b4 b5 b6 b7 b8 b9 b10 b11 b12 → μ b1 b2 b3 b4 b5 b6 b7 b8 b9 b10 b11 b12 < μ a1 a2 a3 a4 a5 a6 a7 a8 a9 a10 a11 a12 → W n b1 b2 b3 b4 b5 b6 b7 b8 b9 b10 b11 b12) → W (n + 1) a1 a2 a3 a4 a5 a6 a7 a8 a9 a10 a11 a12) (a1 : A1) (a2 : A2) (a3 : A3) (a4 : A4) (a5 : A5) (a6 : A6) (a7 : A7) (a8 : A8) (a9 : A9) (a10 : A10) (a11 : A11) (a12 : A12) (h : I a1 a2 a3 a4 a5 a6 a7 a8 a9 a10 a11 a12) : ∃ n, W n a1 a2 a3 a4 a5 a6 a7 a8 a9 a10 a11 a12 :=
  loop_m (σ := A1 × A2 × A3 × A4 × A5 × A6 × A7 × A8 × A9 × A10 × A11 × A12) (fun n s => W n s.1 s.2.1 s.2.2.1 s.2.2.2.1 s.2.2.2.2.1 s.2.2.2.2.2.1 s.2.2.2.2.2.2.1 s.2.2.2.2.2.2.2.1 s.2.2.2.2.2.2.2.2.1 s.2.2.2.2.2.2.2.2.2.1 s.2.2.2.2.2.2.2.2.2.2.1 s.2.2.2.2.2.2.2.2.2.2.2) (fun s => I s.1 s.2.1 s.2.2.1 s.2.2.2.1 s.2.2.2.2.1 s.2.2.2.2.2.1 s.2.2.2.2.2.2.1 s.2.2.2.2.2.2.2.1 s.2.2.2.2.2.2.2.2.1 s.2.2.2.2.2.2.2.2.2.1 s.2.2.2.2.2.2.2.2.2.2.1 s.2.2.2.2.2.2.2.2.2.2.2) (fun s => μ s.1 s.2.1 s.2.2.1 s.2.2.2.1 s.2.2.2.2.1 s.2.2.2.2.2.1 s.2.2.2.2.2.2.1 s.2.2.2.2.2.2.2.1 s.2.2.2.2.2.2.2.2.1 s.2.2.2.2.2.2.2.2.2.1 s.2.2.2.2.2.2.2.2.2.2.1 s.2.2.2.2.2.2.2.2.2.2.2) (fun n s hI hk => hs n s.1 s.2.1 s.2.2.1 s.2.2.2.1 s.2.2.2.2.1 s.2.2.2.2.2.1 s.2.2.2.2.2.2.1 s.2.2.2.2.2.2.2.1 s.2.2.2.2.2.2.2.2.1 s.2.2.2.2.2.2.2.2.2.1 s.2.2.2.2.2.2.2.2.2.2.1 s.2.2.2.2.2.2.2.2.2.2.2 hI (fun b1 b2 b3 b4 b5 b6 b7 b8 b9 b10 b11 b12 h9 hm => hk (b1, b2, b3, b4, b5, b6, b7, b8, b9, b10, b11, b12) h9 hm)) (a1, a2, a3, a4, a5, a6, a7, a8, a9, a10, a11, a12) h
theorem lp13 {A1 A2 A3 A4 A5 A6 A7 A8 A9 A10 A11 A12 A13 : Type} (W : Nat → A1 → A2 → A3 → A4 → A5 → A6 → A7 → A8 → A9 → A10 → A11 → A12 → A13 → Prop) (I : A1 → A2 → A3 → A4 → A5 → A6 → A7 → A8 → A9 → A10 → A11 → A12 → A13 → Prop) (μ : A1 → A2 → A3 → A4 → A5 → A6 → A7 → A8 → A9 → A10 → A11 → A12 → A13 → Nat) (hs : ∀ (n : Nat) (a1 : A1) (a2 : A2) (a3 : A3) (a4 : A4) (a5 : A5) (a6 : A6) (a7 : A7) (a8 : A8) (a9 : A9) (a10 : A10) (a11 : A11) (a12 : A12) (a13 : A13), I a1 a2 a3 a4 a5 a6 a7 a8 a9 a10 a11 a12 a13 → (∀ (b1 : A1) (b2 : A2) (b3 : A3) (b4 : A4) (b5 : A5) (b6 : A6) (b7 : A7) (b8 : A8) (b9 : A9) (b10 : A10) (b11 : A11) (b12 : A12) (b13 : A13), I b1 b2 b3 b4 b5 b6 b7 b8 b9 b10 b11 b12 b13 → μ b1 b2 b3 b4 b5 b6 b7 b8 b9 b10 b11 b12 b13 < μ a1 a2 a3 a4 a5 a6 a7 a8 a9 a10 a11 a12 a13 → W n b1 b2 b3 b4 b5 b6 b7 b8 b9 b10 b11 b12 b13) → W (n + 1) a1 a2 a3 a4 a5 a6 a7 a8 a9 a10 a11 a12 a13) (a1 : A1) (a2 : A2) (a3 : A3) (a4 : A4) (a5 : A5) (a6 : A6) (a7 : A7) (a8 : A8) (a9 : A9) (a10 : A10) (a11 : A11) (a12 : A12) (a13 : A13) (h : I a1 a2 a3 a4 a5 a6 a7 a8 a9 a10 a11 a12 a13) : ∃ n, W n a1 a2 a3 a4 a5 a6 a7 a8 a9 a10 a11 a12 a13 :=
  loop_m (σ := A1 × A2 × A3 × A4 × A5 × A6 × A7 × A8 × A9 × A10 × A11 × A12 × A13) (fun n s => W n s.1 s.2.1 s.2.2.1 s.2.2.2.1 s.2.2.2.2.1 s.2.2.2.2.2.1 s.2.2.2.2.2.2.1 s.2.2.2.2.2.2.2.1 s.2.2.2.2.2.2.2.2.1 s.2.2.2.2.2.2.2.2.2.1 s.2.2.2.2.2.2.2.2.2.2.1 s.2.2.2.2.2.2.2.2.2.2.2.1 s.2.2.2.2.2.2.2.2.2.2.2.2) (fun s => I s.1 s.2.1 s.2.2.1 s.2.2.2.1 s.2.2.2.2.1 s.2.2.2.2.2.1 s.2.2.2.2.2.2.1 s.2.2.2.2.2.2.2.1 s.2.2.2.2.2.2.2.2.1 s.2.2.2.2.2.2.2.2.2.1 s.2.2.2.2.2.2.2.2.2.2.1 s.2.2.2.2.2.2.2.2.2.2.2.1 s.2.2.2.2.2.2.2.2.2.2.2.2) (fun s => μ s.1 s.2.1 s.2.2.1 s.2.2.2.1 s.2.2.2.2.1 s.2.2.2.2.2.1 s.2.2.2.2.2.2.1 s.2.2.2.2.2.2.2.1 s.2.2.2.2.2.2.2.2.1 s.2.2.2.2.2.2.2.2.2.1 s.2.2.2.2.2.2.2.2.2.2.1 s.2.2.2.2.2.2.2.2.2.2.2.1 s.2.2.2.2.2.2.2.2.2.2.2.2) (fun n s hI hk => hs n s.1 s.2.1 s.2.2.1 s.2.2.2.1 s.2.2.2.2.1 s.2.2.2.2.2.1 s.2.2.2.2.2.2.1 s.2.2.2.2.2.2.2.1 s.2.2.2.2.2.2.2.2.1 s.2.2.2.2.2.2.2.2.2.1 s.2.2.2.2.2.2.2.2.2.2.1 s.2.2.2.2.2.2.2.2.2.2.2.1 s.2.2.2.2.2.2.2.2.2.2.2.2 hI (fun b1 b2 b3 b4 b5 b6 b7 b8 b9 b10 b11 b12 b13 h9 hm => hk (b1, b2, b3, b4, b5, b6, b7, b8, b9, b10, b11, b12, b13) h9 hm)) (a1, a2, a3, a4, a5, a6, a7, a8, a9, a10, a11, a12, a13) h
theorem lp14 {A1 A2 A3 A4 A5 A6 A7 A8 A9 A10 A11 A12 A13 A14 : Type} (W : Nat → A1 → A2 → A3 → A4 → A5 → A6 → A7 → A8 → A9 → A10 → A11 → A12 → A13 → A14 → Prop) (I : A1 → A2 → A3 → A4 → A5 → A6 → A7 → A8 → A9 → A10 → A11 → A12 → A13 → A14 → Prop) (μ : A1 → A2 → A3 → A4 → A5 → A6 → A7 → A8 → A9 → A10 → A11 → A12 → A13 → A14 → Nat) (hs : ∀ (n : Nat) (a1 : A1) (a2 : A2) (a3 : A3) (a4 : A4) (a5 : A5) (a6 : A6) (a7 : A7) (a8 : A8) (a9 : A9) (a10 : A10) (a11 : A11) (a12 : A12) (a13 : A13) (a14 : A14), I a1 a2 a3 a4 a5 a6 a7 a8 a9 a10 a11 a12 a13 a14 → (∀ (b1 : A1) (b2 : A2) (b3 : A3) (b4 : A4) (b5 : A5) (b6 : A6) (b7 : A7) (b8 : A8) (b9 : A9) (b10 : A10) (b11 : A11) (b12 : A12) (b13 : A13) (b14 : A14), I b1 b2 b3 b4 b5 b6 b7 b8 b9 b10 b11 b12 b13 b14 → μ b1 b2 b3 b4 b5 b6 b7 b8 b9 b10 b11 b12 b13 b14 < μ a1 a2 a3 a4 a5 a6 a7 a8 a9 a10 a11 a12 a13 a14 → W n b1 b2 b3 b4 b5 b6 b7 b8 b9 b10 b11 b12 b13 b14) → W (n + 1) a1 a2 a3 a4 a5 a6 a7 a8 a9 a10 a11 a12 a13 a14) (a1 : A1) (a2 : A2) (a3 : A3) (a4 : A4) (a5 : A5) (a6 : A6) (a7 : A7) (a8 : A8) (a9 : A9) (a10 : A10) (a11 : A11) (a12 : A12) (a13 : A13) (a14 : A14) (h : I a1 a2 a3 a4 a5 a6 a7 a8 a9 a10 a11 a12 a13 a14) : ∃ n, W n a1 a2 a3 a4 a5 a6 a7 a8 a9 a10 a11 a12 a13 a14 :=
  loop_m (σ := A1 × A2 × A3 × A4 × A5 × A6 × A7 × A8 × A9 × A10 × A11 × A12 × A13 × A14) (fun n s => W n s.1 s.2.1 s.2.2.1 s.2.2.2.1 s.2.2.2.2.1 s.2.2.2.2.2.1 s.2.2.2.2.2.2.1 s.2.2.2.2.2.2.2.1 s.2.2.2.2.2.2.2.2.1 s.2.2.2.2.2.2.2.2.2.1 s.2.2.2.2.2.2.2.2.2.2.1 s.2.2.2.2.2.2.2.2.2.2.2.1 s.2.2.2.2.2.2.2.2.2.2.2.2.1 s.2.2.2.2.2.2.2.2.2.2.2.2.2) (fun s => I s.1 s.2.1 s.2.2.1 s.2.2.2.1 s.2.2.2.2.1 s.2.2.2.2.2.1 s.2.2.2.2.2.2.1 s.2.2.2.2.2.2.2.1 s.2.2.2.2.2.2.2.2.1 s.2.2.2.2.2.2.2.2.2.1 s.2.2.2.2.2.2.2.2.2.2.1 s.2.2.2.2.2.2.2.2.2.2.2.1 s.2.2.2.2.2.2.2.2.2.2.2.2.1 s.2.2.2.2.2.2.2.2.2.2.2.2.2) (fun s => μ s.1 s.2.1 s.2.2.1 s.2.2.2.1 s.2.2.2.2.1 s.2.2.2.2.2.1 s.2.2.2.2.2.2.1 s.2.2.2.2.2.2.2.1 s.2.2.2.2.2.2.2.2.1 s.2.2.2.2.2.2.2.2.2.1 s.2.2.2.2.2.2.2.2.2.2.1 s.2.2.2.2.2.2.2.2.2.2.2.1 s.2.2.2.2.2.2.2.2.2.2.2.2.1 s.2.2.2.2.2.2.2.2.2.2.2.2.2) (fun n s hI hk => hs n s.1 s.2.1 s.2.2.1 s.2.2.2.1 s.2.2.2.2.1 s.2.2.2.2.2.1 s.2.2.2.2.2.2.1 s.2.2.2.2.2.2.2.1 s.2.2.2.2.2.2.2.2.1 s.2.2.2.2.2.2.2.2.2.1 s.2.2.2.2.2.2.2.2.2.2.1 s.2.2.2.2.2.2.2.2.2.2.2.1 s.2.2.2.2.2.2.2.2.2.2.2.2.1 s.2.2.2.2.2.2.2.2.2.2.2.2.2 hI (fun b1 b2 b3 b4 b5 b6 b7 b8 b9 b10 b11 b12 b13 b14 h9 hm => hk (b1, b2, b3, b4, b5, b6, b7, b8, b9, b10, b11, b12, b13, b14) h9 hm)) (a1, a2, a3, a4, a5, a6, a7, a8, a9, a10, a11, a12, a13, a14) h
theorem lp15 {A1 A2 A3 A4 A5 A6 A7 A8 A9 A10 A11 A12 A13 A14 A15 : Type} (W : Nat → A1 → A2 → A3 → A4 → A5 → A6 → A7 → A8 → A9 → A10 → A11 → A12 → A13 → A14 → A15 → Prop) (I : A1 → A2 → A3 → A4 → A5 → A6 → A7 → A8 → A9 → A10 → A11 → A12 → A13 → A14 → A15 → Prop) (μ : A1 → A2 → A3 → A4 → A5 → A6 → A7 → A8 → A9 → A10 → A11 → A12 → A13 → A14 → A15 → Nat) (hs : ∀ (n : Nat) (a1 : A1) (a2 : A2) (a3 : A3) (a4 : A4) (a5 : A5) (a6 : A6) (a7 : A7) (a8 : A8) (a9 : A9) (a10 : A10) (a11 : A11) (a12 : A12) (a13 : A13) (a14 : A14) (a15 : A15), I a1 a2 a3 a4 a5 a6 a7 a8 a9 a10 a11 a12 a13 a14 a15 → (∀ (b1 : A1) (b2 : A2) (b3 : A3) (b4 : A4) (b5 : A5) (b6 : A6) (b7 : A7) (b8 : A8) (b9 : A9) (b10 : A10) (b11 : A11) (b12 : A12) (b13 : A13) (b14 : A14) (b15 : A15), I b1 b2 b3 b4 b5 b6 b7 b8 b9 b10 b11 b12 b13 b14 b15 → μ b1 b2 b3 b4 b5 b6 b7 b8 b9 b10 b11 b12 b13 b14 b15 < μ a1 a2 a3 a4 a5 a6 a7 a8 a9 a10 a11 a12 a13 a14 a15 → W n b1 b2 b3 b4 b5 b6 b7 b8 b9 b10 b11 b12 b13 b14 b15) → W (n + 1) a1 a2 a3 a4 a5 a6 a7 a8 a9 a10 a11 a12 a13 a14 a15) (a1 : A1) (a2 : A2) (a3 : A3) (a4 : A4) (a5 : A5) (a6 : A6) (a7 : A7) (a8 : A8) (a9 : A9) (a10 : A10) (a11 : A11) (a12 : A12) (a13 : A13) (a14 : A14) (a15 : A15) (h : I a1 a2 a3 a4 a5 a6 a7 a8 a9 a10 a11 a12 a13 a14 a15) : ∃ n, W n a1 a2 a3 a4 a5 a6 a7 a8 a9 a10 a11 a12 a13 a14 a15 :=
  loop_m (σ := A1 × A2 × A3 × A4 × A5 × A6 × A7 × A8 × A9 × A10 × A11 × A12 × A13 × A14 × A15) (fun n s => W n s.1 s.2.1 s.2.2.1 s.2.2.2.1 s.2.2.2.2.1 s.2.2.2.2.2.1 s.2.2.2.2.2.2.1 s.2.2.2.2.2.2.2.1 s.2.2.2.2.2.2.2.2.1 s.2.2.2.2.2.2.2.2.2.1 s.2.2.2.2.2.2.2.2.2.2.1 s.2.2.2.2.2.2.2.2.2.2.2.1 s.2.2.2.2.2.2.2.2.2.2.2.2.1 s.2.2.2.2.2.2.2.2.2.2.2.2.2.1 s.2.2.2.2.2.2.2.2.2.2.2.2.2.2) (fun s => I s.1 s.2.1 s.2.2.1 s.2.2.2.1 s.2.2.2.2.1 s.2.2.2.2.2.1 s.2.2.2.2.2.2.1 s.2.2.2.2.2.2.2.1 s.2.2.2.2.2.2.2.2.1 s.2.2.2.2.2.2.2.2.2.1 s.2.2.2.2.2.2.2.2.2.2.1 s.2.2.2.2.2.2.2.2.2.2.2.1 s.2.2.2.2.2.2.2.2.2.2.2.2.1 s.2.2.2.2.2.2.2.2.2.2.2.2.2.1 s.2.2.2.2.2.2.2.2.2.2.2.2.2.2) (fun s => μ s.1 s.2.1 s.2.2.1 s.2.2.2.1 s.2.2.2.2.1 s.2.2.2.2.2.1 s.2.2.2.2.2.2.1 s.2.2.2.2.2.2.2.1 s.2.2.2.2.2.2.2.2.1 s.2.2.2.2.2.2.2.2.2.1 s.2.2.2.2.2.2.2.2.2.2.1 s.2.2.2.2.2.2.2.2.2.2.2.1 s.2.2.2.2.2.2.2.2.2.2.2.2.1 s.2.2.2.2.2.2.2.2.2.2.2.2.2.1 s.2.2.2.2.2.2.2.2.2.2.2.2.2.2) (fun n s hI hk => hs n s.1 s.2.1 s.2.2.1 s.2.2.2.1 s.2.2.2.2.1 s.2.2.2.2.2.1 s.2.2.2.2.2.2.1 s.2.2.2.2.2.2.2.1 s.2.2.2.2.2.2.2.2.1 s.2.2.2.2.2.2.2.2.2.1 s.2.2.2.2.2.2.2.2.2.2.1 s.2.2.2.2.2.2.2.2.2.2.2.1 s.2.2.2.2.2.2.2.2.2.2.2.2.1 s.2.2.2.2.2.2.2.2.2.2.2.2.2.1 s.2.2.2.2.2.2.2.2.2.2.2.2.2.2 hI (fun b1 b2 b3 b4 b5 b6 b7 b8 b9 b10 b11 b12 b13 b14 b15 h9 hm => hk (b1, b2, b3, b4, b5, b6, b7, b8, b9, b10, b11, b12, b13, b14, b15) h9 hm)) (a1, a2, a3, a4, a5, a6, a7, a8, a9, a10, a11, a12, a13, a14, a15) h
theorem lp16 {A1 A2 A3 A4 A5 A6 A7 A8 A9 A10 A11 A12 A13 A14 A15 A16 : Type} (W : Nat → A1 → A2 → A3 → A4 → A5 → A6 → A7 → A8 → A9 → A10 → A11 → A12 → A13 → A14 → A15 → A16 → Prop) (I : A1 → A2 → A3 → A4 → A5 → A6 → A7 → A8 → A9 → A10 → A11 → A12 → A13 → A14 → A15 → A16 → Prop) (μ : A1 → A2 → A3 → A4 → A5 → A6 → A7 → A8 → A9 → A10 → A11 → A12 → A13 → A14 → A15 → A16 → Nat) (hs : ∀ (n : Nat) (a1 : A1) (a2 : A2) (a3 : A3) (a4 : A4) (a5 : A5) (a6 : A6) (a7 : A7) (a8 : A8) (a9 : A9) (a10 : A10) (a11 : A11) (a12 : A12) (a13 : A13) (a14 : A14) (a15 : A15) (a16 : A16), I a1 a2 a3 a4 a5 a6 a7 a8 a9 a10 a11 a12 a13 a14 a15 a16 → (∀ (b1 : A1) (b2 : A2) (b3 : A3) (b4 : A4) (b5 : A5) (b6 : A6) (b7 : A7) (b8 : A8) (b9 : A9) (b10 : A10) (b11 : A11) (b12 : A12) (b13 : A13) (b14 : A14) (b15 : A15) (b16 : A16), I b1 b2 b3 b4 b5 b6 b7 b8 b9 b10 b11 b12 b13 b14 b15 b16 → μ b1 b2 b3 b4 b5 b6 b7 b8 b9 b10 b11 b12 b13 b14 b15 b16 < μ a1 a2 a3 a4 a5 a6 a7 a8 a9 a10 a11 a12 a13 a14 a15 a16 → W n b1 b2 b3 b4 b5 b6 b7 b8 b9 b10 b11 b12 b13 b14 b15 b16) → W (n + 1) a1 a2 a3 a4 a5 a6 a7 a8 a9 a10 a11 a12 a13 a14 a15 a16) (a1 : A1) (a2 : A2) (a3 : A3) (a4 : A4) (a5 : A5) (a6 : A6) (a7 : A7) (a8 : A8) (a9 : A9) (a10 : A10) (a11 : A11) (a12 : A12) (a13 : A13) (a14 : A14) (a15 : A15) (a16 : A16) (h : I a1 a2 a3 a4 a5 a6 a7 a8 a9 a10 a11 a12 a13 a14 a15 a16) : ∃ n, W n a1 a2 a3 a4 a5 a6 a7 a8 a9 a10 a11 a12 a13 a14 a15 a16 :=
  loop_m (σ := A1 × A2 × A3 × A4 × A5 × A6 × A7 × A8 × A9 × A10 × A11 × A12 × A13 × A14 × A15 × A16) (fun n s => W n s.1 s.2.1 s.2.2.1 s.2.2.2.1 s.2.2.2.2.1 s.2.2.2.2.2.1 s.2.2.2.2.2.2.1 s.2.2.2.2.2.2.2.1 s.2.2.2.2.2.2.2.2.1 s.2.2.2.2.2.2.2.2.2.1 s.2.2.2.2.2.2.2.2.2.2.1 s.2.2.2.2.2.2.2.2.2.2.2.1 s.2.2.2.2.2.2.2.2.2.2.2.2.1 s.2.2.2.2.2.2.2.2.2.2.2.2.2.1 s.2.2.2.2.2.2.2.2.2.2.2.2.2.2.1 s.2.2.2.2.2.2.2.2.2.2.2.2.2.2.2) (fun s => I s.1 s.2.1 s.2.2.1 s.2.2.2.1 s.2.2.2.2.1 s.2.2.2.2.2.1 s.2.2.2.2.2.2.1 s.2.2.2.2.2.2.2.1 s.2.2.2.2.2.2.2.2.1 s.2.2.2.2.2.2.2.2.2.1 s.2.2.2.2.2.2.2.2.2.2.1 s.2.2.2.2.2.2.2.2.2.2.2.1 s.2.2.2.2.2.2.2.2.2.2.2.2.1 s.2.2.2.2.2.2.2.2.2.2.2.2.2.1 s.2.2.2.2.2.2.2.2.2.2.2.2.2.2.1 s.2.2.2.2.2.2.2.2.2.2.2.2.2.2.2) (fun s => μ s.1 s.2.1 s.2.2.1 s.2.2.2.1 s.2.2.2.2.1 s.2.2.2.2.2.1 s.2.2.2.2.2.2.1 s.2.2.2.2.2.2.2.1 s.2.2.2.2.2.2.2.2.1 s.2.2.2.2.2.2.2.2.2.1 s.2.2.2.2.2.2.2.2.2.2.1 s.2.2.2.2.2.2.2.2.2.2.2.1 s.2.2.2.2.2.2.2.2.2.2.2.2.1 s.2.2.2.2.2.2.2.2.2.2.2.2.2.1 s.2.2.2.2.2.2.2.2.2.2.2.2.2.2.1 s.2.2.2.2.2.2.2.2.2.2.2.2.2.2.2) (fun n s hI hk => hs n s.1 s.2.1 s.2.2.1 s.2.2.2.1 s.2.2.2.2.1 s.2.2.2.2.2.1 s.2.2.2.2.2.2.1 s.2.2.2.2.2.2.2.1 s.2.2.2.2.2.2.2.2.1 s.2.2.2.2.2.2.2.2.2.1 s.2.2.2.2.2.2.2.2.2.2.1 s.2.2.2.2.2.2.2.2.2.2.2.1 s.2.2.2.2.2.2.2.2.2.2.2.2.1 s.2.2.2.2.2.2.2.2.2.2.2.2.2.1 s.2.2.2.2.2.2.2.2.2.2.2.2.2.2.1 s.2.2.2.2.2.2.2.2.2.2.2.2.2.2.2 hI (fun b1 b2 b3 b4 b5 b6 b7 b8 b9 b10 b11 b12 b13 b14 b15 b16 h9 hm => hk (b1, b2, b3, b4, b5, b6, b7, b8, b9, b10, b11, b12, b13, b14, b15, b16) h9 hm)) (a1, a2, a3, a4, a5, a6, a7, a8, a9, a10, a11, a12, a13, a14, a15, a16) h
theorem pk_least (P : Nat → Prop) (h : ∃ k, P k) : ∃ k, P k ∧ ∀ j, j < k → ¬ P j := by
  obtain ⟨k, hk⟩ := h
  induction k using Nat.strongRecOn with
  | ind k ih =>
    by_cases e : ∃ j, j < k ∧ P j
    · obtain ⟨j, hj, pj⟩ := e
      exact ih j hj pj
    · exact ⟨k, hk, fun j hj pj => e ⟨j, hj, pj⟩⟩
theorem rp1 {ρ A1 : Type} (W : Nat → (ρ → Prop) → A1 → Prop) (ok : A1 → Prop) (μ : A1 → Nat) (val : A1 → ρ)
    (hs : ∀ (d : Nat) (post : ρ → Prop) (a1 : A1), ok a1 → post (val a1) → (∀ (post' : ρ → Prop) (b1 : A1), ok b1 → μ b1 < μ a1 → post' (val b1) → W d post' b1) → W (d + 1) post a1) :
    ∀ (d : Nat) (post : ρ → Prop) (a1 : A1), ok a1 → μ a1 < d → post (val a1) → W d post a1 := by
  intro d
  induction d with
  | zero => intro post a1 _ h; omega
  | succ d ih =>
    intro post a1 ho hm hp
    exact hs d post a1 ho hp (fun post' b1 ho' hm' hp' => ih post' b1 ho' (by omega) hp')
theorem rp2 {ρ A1 A2 : Type} (W : Nat → (ρ → Prop) → A1 → A2 → Prop) (ok : A1 → A2 → Prop) (μ : A1 → A2 → Nat) (val : A1 → A2 → ρ)
    (hs : ∀ (d : Nat) (post : ρ → Prop) (a1 : A1) (a2 : A2), ok a1 a2 → post (val a1 a2) → (∀ (post' : ρ → Prop) (b1 : A1) (b2 : A2), ok b1 b2 → μ b1 b2 < μ a1 a2 → post' (val b1 b2) → W d post' b1 b2) → W (d + 1) post a1 a2) :
    ∀ (d : Nat) (post : ρ → Prop) (a1 : A1) (a2 : A2), ok a1 a2 → μ a1 a2 < d → post (val a1 a2) → W d post a1 a2 := by
  intro d
  induction d with
  | zero => intro post a1 a2 _ h; omega
  | succ d ih =>
    intro post a1 a2 ho hm hp
    exact hs d post a1 a2 ho hp (fun post' b1 b2 ho' hm' hp' => ih post' b1 b2 ho' (by omega) hp')
theorem rp3 {ρ A1 A2 A3 : Type} (W : Nat → (ρ → Prop) → A1 → A2 → A3 → Prop) (ok : A1 → A2 → A3 → Prop) (μ : A1 → A2 → A3 → Nat) (val : A1 → A2 → A3 → ρ)
    (hs : ∀ (d : Nat) (post : ρ → Prop) (a1 : A1) (a2 : A2) (a3 : A3), ok a1 a2 a3 → post (val a1 a2 a3) → (∀ (post' : ρ → Prop) (b1 : A1) (b2 : A2) (b3 : A3), ok b1 b2 b3 → μ b1 b2 b3 < μ a1 a2 a3 → post' (val b1 b2 b3) → W d post' b1 b2 b3) → W (d + 1) post a1 a2 a3) :
    ∀ (d : Nat) (post : ρ → Prop) (a1 : A1) (a2 : A2) (a3 : A3), ok a1 a2 a3 → μ a1 a2 a3 < d → post (val a1 a2 a3) → W d post a1 a2 a3 := by
  intro d
  induction d with
  | zero => intro post a1 a2 a3 _ h; omega
  | succ d ih =>
    intro post a1 a2 a3 ho hm hp
    exact hs d post a1 a2 a3 ho hp (fun post' b1 b2 b3 ho' hm' hp' => ih post' b1 b2 b3 ho' (by omega) hp')
theorem rp4 {ρ A1 A2 A3 A4 : Type} (W : Nat → (ρ → Prop) → A1 → A2 → A3 → A4 → Prop) (ok : A1 → A2 → A3 → A4 → Prop) (μ : A1 → A2 → A3 → A4 → Nat) (val : A1 → A2 → A3 → A4 → ρ)
    (hs : ∀ (d : Nat) (post : ρ → Prop) (a1 : A1) (a2 : A2) (a3 : A3) (a4 : A4), ok a1 a2 a3 a4 → post (val a1 a2 a3 a4) → (∀ (post' : ρ → Prop) (b1 : A1) (b2 : A2) (b3 : A3) (b4 : A4), ok b1 b2 b3 b4 → μ b1 b2 b3 b4 < μ a1 a2 a3 a4 → post' (val b1 b2 b3 b4) → W d post' b1 b2 b3 b4) → W (d + 1) post a1 a2 a3 a4) :
    ∀ (d : Nat) (post : ρ → Prop) (a1 : A1) (a2 : A2) (a3 : A3) (a4 : A4), ok a1 a2 a3 a4 → μ a1 a2 a3 a4 < d → post (val a1 a2 a3 a4) → W d post a1 a2 a3 a4 := by
  intro d
  induction d with
  | zero => intro post a1 a2 a3 a4 _ h; omega
  | succ d ih =>
    intro post a1 a2 a3 a4 ho hm hp
    exact hs d post a1 a2 a3 a4 ho hp (fun post' b1 b2 b3 b4 ho' hm' hp' => ih post' b1 b2 b3 b4 ho' (by omega) hp')
theorem rp5 {ρ A1 A2 A3 A4 A5 : Type} (W : Nat → (ρ → Prop) → A1 → A2 → A3 → A4 → A5 → Prop) (ok : A1 → A2 → A3 → A4 → A5 → Prop) (μ : A1 → A2 → A3 → A4 → A5 → Nat) (val : A1 → A2 → A3 → A4 → A5 → ρ)
    (hs : ∀ (d : Nat) (post : ρ → Prop) (a1 : A1) (a2 : A2) (a3 : A3) (a4 : A4) (a5 : A5), ok a1 a2 a3 a4 a5 → post (val a1 a2 a3 a4 a5) → (∀ (post' : ρ → Prop) (b1 : A1) (b2 : A2) (b3 : A3) (b4 : A4) (b5 : A5), ok b1 b2 b3 b4 b5 → μ b1 b2 b3 b4 b5 < μ a1 a2 a3 a4 a5 → post' (val b1 b2 b3 b4 b5) → W d post' b1 b2 b3 b4 b5) → W (d + 1) post a1 a2 a3 a4 a5) :
    ∀ (d : Nat) (post : ρ → Prop) (a1 : A1) (a2 : A2) (a3 : A3) (a4 : A4) (a5 : A5), ok a1 a2 a3 a4 a5 → μ a1 a2 a3 a4 a5 < d → post (val a1 a2 a3 a4 a5) → W d post a1 a2 a3 a4 a5 := by
  intro d
  induction d with
  | zero => intro post a1 a2 a3 a4 a5 _ h; omega
  | succ d ih =>
    intro post a1 a2 a3 a4 a5 ho hm hp
    exact hs d post a1 a2 a3 a4 a5 ho hp (fun post' b1 b2 b3 b4 b5 ho' hm' hp' => ih post' b1 b2 b3 b4 b5 ho' (by omega) hp')
theorem rp6 {ρ A1 A2 A3 A4 A5 A6 : Type} (W : Nat → (ρ → Prop) → A1 → A2 → A3 → A4 → A5 → A6 → Prop) (ok : A1 → A2 → A3 → A4 → A5 → A6 → Prop) (μ : A1 → A2 → A3 → A4 → A5 → A6 → Nat) (val : A1 → A2 → A3 → A4 → A5 → A6 → ρ)
    (hs : ∀ (d : Nat) (post : ρ → Prop) (a1 : A1) (a2 : A2) (a3 : A3) (a4 : A4) (a5 : A5) (a6 : A6), ok a1 a2 a3 a4 a5 a6 → post (val a1 a2 a3 a4 a5 a6) → (∀ (post' : ρ → Prop) (b1 : A1) (b2 : A2) (b3 : A3) (b4 : A4) (b5 : A5) (b6 : A6), ok b1 b2 b3 b4 b5 b6 → μ b1 b2 b3 b4 b5 b6 < μ a1 a2 a3 a4 a5 a6 → post' (val b1 b2 b3 b4 b5 b6) → W d post' b1 b2 b3 b4 b5 b6) → W (d + 1) post a1 a2 a3 a4 a5 a6) :
    ∀ (d : Nat) (post : ρ → Prop) (a1 : A1) (a2 : A2) (a3 : A3) (a4 : A4) (a5 : A5) (a6 : A6), ok a1 a2 a3 a4 a5 a6 → μ a1 a2 a3 a4 a5 a6 < d → post (val a1 a2 a3 a4 a5 a6) → W d post a1 a2 a3 a4 a5 a6 := by
  intro d
  induction d with
  | zero => intro post a1 a2 a3 a4 a5 a6 _ h; omega
  | succ d ih =>
    intro post a1 a2 a3 a4 a5 a6 ho hm hp
    exact hs d post a1 a2 a3 a4 a5 a6 ho hp (fun post' b1 b2 b3 b4 b5 b6 ho' hm' hp' => ih post' b1 b2 b3 b4 b5 b6 ho' (by omega) hp')
theorem rec_p {σ ρ : Type} (W : Nat → (ρ → Prop) → σ → Prop) (ok : σ → Prop) (μ : σ → Nat) (val : σ → ρ)
    (hs : ∀ d s post, ok s → post (val s) → (∀ s' post', ok s' → μ s' < μ s → post' (val s') → W d post' s') → W (d + 1) post s) :
    ∀ d s post, ok s → μ s < d → post (val s) → W d post s := by
  intro d
  induction d with
  | zero => intro s post _ h; omega
  | succ d ih =>
    intro s post ho hm hp
    exact hs d s post ho hp (fun s' post' ho' hm' hp' => ih s' post' ho' (by omega) hp')
theorem rec_q {σ ρ : Type} (W : Nat → (ρ → Prop) → σ → Prop) (ok : σ → Prop) (μ : σ → Nat) (Q : σ → ρ → Prop)
    (hs : ∀ d s post, ok s → (∀ r, Q s r → post r) → (∀ s' post', ok s' → μ s' < μ s → (∀ r, Q s' r → post' r) → W d post' s') → W (d + 1) post s) :
    ∀ d s post, ok s → μ s < d → (∀ r, Q s r → post r) → W d post s := by
  intro d
  induction d with
  | zero => intro s post _ h; omega
  | succ d ih =>
    intro s post ho hm hp
    exact hs d s post ho hp (fun s' post' ho' hm' hp' => ih s' post' ho' (by omega) hp')
def bx_sum (f : Nat → Int32) : Nat → Int32
  | 0 => 0
  | n + 1 => bx_sum f n + f n
theorem ek_u {A : Prop} {B : Nat → Prop} {k N : Nat} (hk : k < N) (h : B k) : (some k = none → A) ∧ (∀ y : Nat, some k = some y → (y < N ∧ B y)) :=
  ⟨fun z => absurd z (Option.some_ne_none k), fun _ e => (by cases e; exact ⟨hk, h⟩)⟩
theorem ek_nu {A : Prop} {B : Nat → Prop} (h : A) : ((none : Option Nat) = none → A) ∧ (∀ y : Nat, (none : Option Nat) = some y → B y) :=
  ⟨fun _ => h, fun _ e => (by cases e)⟩
theorem ek_if {c d A B : Prop} (e : c ↔ d) (f : d → A) (g : ¬ d → B) : (c → A) ∧ (¬ c → B) :=
  ⟨fun z => f (e.mp z), fun z => g (fun y => z (e.mpr y))⟩
theorem ek_v {α : Sort _} {P : α → Prop} {a b : α} (e : a = b) (h : P b) : P a := e ▸ h
theorem co_some {x : Option Nat} {A : Prop} {B : Nat → Prop} (i : Nat) (h : B i) (hx : x = some i := by rfl) : (x = none → A) ∧ (∀ y : Nat, x = some y → B y) := by
  subst hx
  exact ⟨fun e => (nomatch e), fun y e => Option.some.inj e ▸ h⟩
theorem co_none {x : Option Nat} {A : Prop} {B : Nat → Prop} (h : A) (hx : x = none := by rfl) : (x = none → A) ∧ (∀ y : Nat, x = some y → B y) := by
  subst hx
  exact ⟨fun _ => h, fun y e => (nomatch e)⟩
theorem co_any {x : Option Nat} {A : Prop} {B : Nat → Prop} (hn : x = none → A) (hs : ∀ i : Nat, x = some i → B i) : (x = none → A) ∧ (∀ y : Nat, x = some y → B y) := ⟨hn, hs⟩
theorem co_2 {P : Nat → Prop} (h0 : P 0) (h1 : P 1) {i : Nat} (hi : i < 2) : P i :=
  match i, hi with
  | 0, _ => h0
  | 1, _ => h1
theorem co_3 {P : Nat → Prop} (h0 : P 0) (h1 : P 1) (h2 : P 2) {i : Nat} (hi : i < 3) : P i :=
  match i, hi with
  | 0, _ => h0
  | 1, _ => h1
  | 2, _ => h2
theorem co_4 {P : Nat → Prop} (h0 : P 0) (h1 : P 1) (h2 : P 2) (h3 : P 3) {i : Nat} (hi : i < 4) : P i :=
  match i, hi with
  | 0, _ => h0
  | 1, _ => h1
  | 2, _ => h2
  | 3, _ => h3
theorem co_dec {N : Nat} {P : Nat → Prop} [DecidablePred P] (h : (List.range N).all (fun i => decide (P i)) = true) {i : Nat} (hi : i < N) : P i := by
  have := List.all_eq_true.mp h i (List.mem_range.mpr hi)
  exact of_decide_eq_true this
theorem co_tab {α : Type} {l : List α} {d : α} {P : α → Prop} (h : ∀ a, a ∈ l → P a) {i : Nat} (hi : i < l.length) : P (l.getD i d) := by
  rw [List.getD_eq_getElem?_getD, List.getElem?_eq_getElem hi]
  exact h _ (List.getElem_mem hi)
theorem pk_mu {x : Int32} {L : Nat} (h0 : ¬ x < 0) (h : ¬ nI L ≤ x) (hL : L < 2 ^ 31) : ∃ j : Nat, j < L ∧ x = nI j ∧ x + 1 = nI (j + 1) ∧ x.toNatClampNeg = j ∧ L - (x + 1).toNatClampNeg < L - x.toNatClampNeg := by
  obtain ⟨j, hj, rfl⟩ := nI_of h0
  have hl : j < L := Nat.not_le.mp fun q => h (nI_le q hj)
  refine ⟨j, hl, rfl, nI_1 j, nI_clamp hj, ?_⟩
  rw [nI_1, nI_clamp (by omega), nI_clamp hj]
  omega
theorem op_s {α : Type} {r : Option α} {A : Prop} {B : α → Prop} {y : α} (h : r = some y) (b : B y) : (r = none → A) ∧ ∀ z, r = some z → B z :=
  ⟨fun e => (by rw [h] at e; cases e), fun z e => (by rw [h] at e; cases e; exact b)⟩
def l_holds {α : Type} (a : Nat → Option Nat) (LP : List Nat) (p : Nat → α) (c : Nat) (b : Nat → α) : Prop :=
  ∀ j, j < c → ∃ y, a j = some y ∧ y ∈ LP ∧ p y = b j
theorem l_holds_0 {α : Type} {a : Nat → Option Nat} {LP : List Nat} {p b : Nat → α} : l_holds a LP p 0 b := fun j h => absurd h (Nat.not_lt_zero j)
theorem l_in_new (LP : List Nat) (q : Nat) : q ∈ LP ++ [q] := List.mem_append.mpr (Or.inr (List.mem_singleton.mpr rfl))
def l_sum (b : Nat → Int32) : Nat → Int32
  | 0 => 0
  | k + 1 => l_sum b k + b k
theorem sb_shr0 (x : Int32) : x >>> ((0 : Int32) &&& 31) = x := by
  rw [show ((0 : Int32) &&& 31) = 0 by decide]
  simp
theorem sb_shl0 (x : Int32) : x <<< ((0 : Int32) &&& 31) = x := by
  rw [show ((0 : Int32) &&& 31) = 0 by decide]
  simp
theorem sb_cl0 : (0 : Int32).toNatClampNeg = 0 := by decide
theorem sb_m1 {p : Nat} (h : 0 < p) : nI p + (-1) = nI (p - 1) := by
  obtain ⟨q, rfl⟩ : ∃ q, p = q + 1 := ⟨p - 1, by omega⟩
  exact pk_m1 q
def sb_b (c : Nat) : Int32 := (nI c).toInt8.toInt32
theorem sb_byte : ∀ c, c < 256 → sb_b c &&& 255 = nI c ∧ ((nI c).toUInt32 % 65536).toInt32 = nI c ∧ nI c ≤ 255 := by decide +kernel
def sb_Fit (a : Nat → Int32) : Prop := ∀ j, fits .byte (.int (a j)) = true
def sb_Lat (t : Nat → Nat) (n : Nat) (a : Nat → Int32) : Prop := ∀ j, j < n → t j < 256 ∧ a j = sb_b (t j)
theorem sb_fitB (c : Nat) : fits .byte (.int (sb_b c)) = true := pk_fb _
theorem sb_fit0 : sb_Fit (fun _ => 0) := fun _ => by
  show fits .byte (.int 0) = true
  decide
theorem sb_fitU {a : Nat → Int32} {k : Nat} {x : Int32} (h : sb_Fit a) (hx : fits .byte (.int x) = true) : sb_Fit (upd a k x) := by
  intro j
  by_cases e : j = k
  · subst e
    rw [pk_us]
    exact hx
  · rw [pk_un e]
    exact h j
def sb_cat (t : Nat → Nat) (n : Nat) (s : Nat → Nat) : Nat → Nat := fun j => if j < n then t j else s (j - n)
theorem sb_cat_lo {t s : Nat → Nat} {n j : Nat} (h : j < n) : sb_cat t n s j = t j := if_pos h
theorem sb_cat_hi {t s : Nat → Nat} {n j : Nat} : sb_cat t n s (n + j) = s j := by
  show (if n + j < n then t (n + j) else s (n + j - n)) = s j
  rw [if_neg (by omega), Nat.add_sub_cancel_left]
theorem sb_latPut {t s : Nat → Nat} {n w : Nat} {a a' : Nat → Int32} (h : sb_Lat t n a) (hk : ∀ j, j < n → a' j = a j) (hs : ∀ i, i < w → s i < 256 ∧ a' (n + i) = sb_b (s i)) : sb_Lat (sb_cat t n s) (n + w) a' := by
  intro j hj
  by_cases e : j < n
  · rw [sb_cat_lo e, hk j e]
    exact h j e
  · obtain ⟨i, rfl⟩ : ∃ i, j = n + i := ⟨j - n, by omega⟩
    rw [sb_cat_hi]
    exact hs i (by omega)
theorem sb_latKeep {t : Nat → Nat} {n : Nat} {a a' : Nat → Int32} (h : sb_Lat t n a) (hk : ∀ j, j < n → a' j = a j) : sb_Lat t n a' := fun j hj => by
  rw [hk j hj]
  exact h j hj
def sb_cap (q m : Nat) : Nat := if q ≤ m then m else if 2 * m + 2 < q then q else 2 * m + 2
def sb_Room (q m mc ms : Nat) : Prop := q ≤ m ∨ (1 ≤ mc ∧ sb_cap q m ≤ ms ∧ sb_cap q m ≤ 65536)
theorem sb_cap_ge (q m : Nat) : q ≤ sb_cap q m := by
  unfold sb_cap
  split
  · omega
  · split <;> omega
theorem sb_cap_gem (q m : Nat) : m ≤ sb_cap q m := by
  unfold sb_cap
  split
  · omega
  · split <;> omega
theorem sb_cap_le {q m mc ms : Nat} (hm : m ≤ 65536) (hr : sb_Room q m mc ms) : sb_cap q m ≤ 65536 := by
  rcases hr with h | h
  · rw [sb_cap, if_pos h]
    exact hm
  · exact h.2.2
theorem sb_at {P : Int32 → Prop} {x y : Int32} (e : x = y) (h : P y) : P x := e ▸ h
def sb_dg (w : Nat) : Nat := if w < 10 then 1 else if w < 100 then 2 else if w < 1000 then 3 else if w < 10000 then 4 else if w < 100000 then 5 else if w < 1000000 then 6 else if w < 10000000 then 7 else if w < 100000000 then 8 else if w < 1000000000 then 9 else 10
def sb_dec (v : Nat) : Nat → Nat := fun i => 48 + v / 10 ^ (sb_dg v - 1 - i) % 10
theorem sb_dg_in (w : Nat) : 1 ≤ sb_dg w ∧ sb_dg w ≤ 10 := by
  unfold sb_dg
  constructor <;> (repeat' split) <;> omega
theorem sb_dg100 {w : Nat} (h : 100 ≤ w) (hw : w < 2 ^ 31) : sb_dg w = sb_dg (w / 100) + 2 := by
  rw [sb_dg, sb_dg, if_neg (show ¬ w < 10 by omega), if_neg (show ¬ w < 100 by omega)]
  by_cases h3 : w < 1000
  · rw [if_pos h3, if_pos (show w / 100 < 10 by omega)]
  rw [if_neg h3, if_neg (show ¬ w / 100 < 10 by omega)]
  by_cases h4 : w < 10000
  · rw [if_pos h4, if_pos (show w / 100 < 100 by omega)]
  rw [if_neg h4, if_neg (show ¬ w / 100 < 100 by omega)]
  by_cases h5 : w < 100000
  · rw [if_pos h5, if_pos (show w / 100 < 1000 by omega)]
  rw [if_neg h5, if_neg (show ¬ w / 100 < 1000 by omega)]
  by_cases h6 : w < 1000000
  · rw [if_pos h6, if_pos (show w / 100 < 10000 by omega)]
  rw [if_neg h6, if_neg (show ¬ w / 100 < 10000 by omega)]
  by_cases h7 : w < 10000000
  · rw [if_pos h7, if_pos (show w / 100 < 100000 by omega)]
  rw [if_neg h7, if_neg (show ¬ w / 100 < 100000 by omega)]
  by_cases h8 : w < 100000000
  · rw [if_pos h8, if_pos (show w / 100 < 1000000 by omega)]
  rw [if_neg h8, if_neg (show ¬ w / 100 < 1000000 by omega)]
  by_cases h9 : w < 1000000000
  · rw [if_pos h9, if_pos (show w / 100 < 10000000 by omega)]
  rw [if_neg h9, if_neg (show ¬ w / 100 < 10000000 by omega)]
  rw [if_pos (show w / 100 < 100000000 by omega)]
theorem sb_negT {w : Nat} (h : w < 2 ^ 31) : (-nI w).toInt = -(w : Int) := by
  rw [Int32.toInt_neg, nI_toInt h]
  exact Int.bmod_eq_of_le (by omega) (by omega)
theorem sb_nle {a b : Nat} (ha : a < 2 ^ 31) (hb : b < 2 ^ 31) : -nI a ≤ -nI b ↔ b ≤ a := by
  rw [Int32.le_iff_toInt_le, sb_negT ha, sb_negT hb]
  omega
theorem sb_nlt {a b : Nat} (ha : a < 2 ^ 31) (hb : b < 2 ^ 31) : -nI a < -nI b ↔ b < a := by
  rw [Int32.lt_iff_toInt_lt, sb_negT ha, sb_negT hb]
  omega
theorem sb_cmp {A B : Prop} {x : Int32} (v c : Nat) (f : c ≤ v → A) (g : v < c → B) (hv : v < 2 ^ 31) (hx : x = -nI c := by rfl) (hc : c < 2 ^ 31 := by omega) : (-nI v ≤ x → A) ∧ (¬ -nI v ≤ x → B) := by
  subst hx
  rw [sb_nle hv hc]
  exact ⟨f, fun z => g (by omega)⟩
theorem sb_ndiv {w : Nat} (hw : w < 2 ^ 31) : (-nI w) / 100 = -nI (w / 100) := by
  apply Int32.toInt_inj.mp
  have h100 : (100 : Int32).toInt = 100 := by decide
  rw [Int32.toInt_div, sb_negT hw, h100, sb_negT (by omega), Int.neg_tdiv, Int.tdiv_eq_ediv_of_nonneg (by omega), Int.bmod_eq_of_le (by omega) (by omega)]
  omega
theorem sb_nrem {w : Nat} (hw : w < 2 ^ 31) : (-nI (w / 100)) * 100 - (-nI w) = nI (w % 100) := by
  have h := pk_rem (a := w) (d := 100) hw (by decide) (by decide)
  rw [pk_div hw (by decide) (by decide)] at h
  rw [← h]
  show (-nI (w / 100)) * nI 100 - (-nI w) = nI w - nI (w / 100) * nI 100
  rw [Int32.neg_mul, Int32.sub_neg, Int32.add_comm, ← Int32.sub_eq_add_neg]
end
section
/-! ===== a byte read unsigned ===== -/
theorem bp_b (x : Int32) : x.toInt8.toInt32 &&& 255 = x &&& 255 := by
  apply Int32.toBitVec_inj.mp
  rw [Int32.toBitVec_and, Int32.toBitVec_and, Int8.toBitVec_toInt32, Int32.toBitVec_toInt8]
  apply BitVec.eq_of_getLsbD_eq
  intro i hi
  rw [BitVec.getLsbD_and, BitVec.getLsbD_and]
  have hm : ∀ i < 32, 8 ≤ i → (255 : Int32).toBitVec.getLsbD i = false := by decide
  rcases Nat.lt_or_ge i 8 with z | z
  · rw [BitVec.getLsbD_signExtend, BitVec.getLsbD_signExtend, if_pos z, if_pos hi]
    simp only [z, hi, decide_true, Bool.true_and]
  · rw [hm i hi z]; simp

/-! ===== lN n to 2^64: shifts, and, or, masks, one bit ===== -/
theorem wb_tb (n : Nat) : (lN n).toBitVec = BitVec.ofNat 64 n := rfl
theorem wb_inj {a b : Int64} (h : a.toBitVec = b.toBitVec) : a = b := Int64.toBitVec_inj.mp h
theorem wb_tn {n : Nat} (h : n < 2 ^ 64) : (lN n).toBitVec.toNat = n := by rw [wb_tb, BitVec.toNat_ofNat, Nat.mod_eq_of_lt h]
theorem wb_of (x : Int64) : ∃ n, n < 2 ^ 64 ∧ x = lN n := ⟨x.toBitVec.toNat, x.toBitVec.isLt, wb_inj (by rw [wb_tb]; simp)⟩
theorem wb_of32 (x : Int32) : ∃ n, n < 2 ^ 32 ∧ x = nI n := ⟨x.toBitVec.toNat, x.toBitVec.isLt, Int32.toBitVec_inj.mp (by show _ = BitVec.ofNat 32 _; simp)⟩
theorem wb_c : ∀ k, k < 64 → ((nI k).toInt64 &&& 63) = lN k := by decide +kernel
theorem wb_cu : ∀ k, k < 64 → ((nI k).toInt64.toUInt64 &&& Int64.toUInt64 63) = UInt64.ofNat k := by decide +kernel
theorem wb_sm : ∀ k, k < 64 → (BitVec.ofNat 64 k).smod 64 = BitVec.ofNat 64 k := by decide +kernel
theorem wb_pw {a b : Nat} (h : a ≤ b) : 2 ^ b = 2 ^ a * 2 ^ (b - a) := by rw [← Nat.pow_add]; congr 1; omega
theorem wb_lt2 {a b : Nat} (h : a < b) : 2 ^ a < 2 ^ b := Nat.pow_lt_pow_right (by decide) h
theorem wb_mod (n : Nat) : lN n = lN (n % 2 ^ 64) := wb_inj (by rw [wb_tb, wb_tb]; apply BitVec.eq_of_toNat_eq; rw [BitVec.toNat_ofNat, BitVec.toNat_ofNat, Nat.mod_mod])
theorem wb_shr {n k : Nat} (hn : n < 2 ^ 64) (hk : k < 64) : ((lN n).toUInt64 >>> ((nI k).toInt64.toUInt64 &&& Int64.toUInt64 63)).toInt64 = lN (n / 2 ^ k) := by
  rw [wb_cu k hk]
  apply wb_inj
  apply BitVec.eq_of_toNat_eq
  show ((lN n).toUInt64 >>> UInt64.ofNat k).toNat = (BitVec.ofNat 64 _).toNat
  have h1 : (UInt64.ofNat k).toNat = k := by
    show (BitVec.ofNat 64 k).toNat = k
    rw [BitVec.toNat_ofNat, Nat.mod_eq_of_lt (by omega)]
  have h2 : (lN n).toUInt64.toNat = n := wb_tn hn
  rw [UInt64.toNat_shiftRight, h1, h2, Nat.mod_eq_of_lt hk, Nat.shiftRight_eq_div_pow, BitVec.toNat_ofNat, Nat.mod_eq_of_lt (Nat.lt_of_le_of_lt (Nat.div_le_self _ _) hn)]
theorem wb_shl (n : Nat) {k : Nat} (hk : k < 64) : lN n <<< ((nI k).toInt64 &&& 63) = lN (n * 2 ^ k) := by
  rw [wb_c k hk]
  apply wb_inj
  rw [Int64.toBitVec_shiftLeft, wb_tb, wb_tb, wb_tb, wb_sm k hk]
  apply BitVec.eq_of_toNat_eq
  rw [BitVec.shiftLeft_eq', BitVec.toNat_shiftLeft, BitVec.toNat_ofNat, BitVec.toNat_ofNat, BitVec.toNat_ofNat, Nat.mod_eq_of_lt (show k < 2 ^ 64 by omega), Nat.shiftLeft_eq, Nat.mul_mod, Nat.mod_mod, ← Nat.mul_mod]
theorem wb_and {a b : Nat} (ha : a < 2 ^ 64) (hb : b < 2 ^ 64) : lN a &&& lN b = lN (a &&& b) := by
  apply wb_inj
  rw [Int64.toBitVec_and, wb_tb, wb_tb, wb_tb]
  apply BitVec.eq_of_toNat_eq
  rw [BitVec.toNat_and, BitVec.toNat_ofNat, BitVec.toNat_ofNat, BitVec.toNat_ofNat, Nat.mod_eq_of_lt ha, Nat.mod_eq_of_lt hb, Nat.mod_eq_of_lt (Nat.and_lt_two_pow _ hb)]
theorem wb_or {a b : Nat} (ha : a < 2 ^ 64) (hb : b < 2 ^ 64) : lN a ||| lN b = lN (a ||| b) := by
  apply wb_inj
  rw [Int64.toBitVec_or, wb_tb, wb_tb, wb_tb]
  apply BitVec.eq_of_toNat_eq
  rw [BitVec.toNat_or, BitVec.toNat_ofNat, BitVec.toNat_ofNat, BitVec.toNat_ofNat, Nat.mod_eq_of_lt ha, Nat.mod_eq_of_lt hb, Nat.mod_eq_of_lt (Nat.or_lt_two_pow ha hb)]
theorem wb_mask {n k : Nat} (hn : n < 2 ^ 64) (hk : k < 64) : lN n &&& lN (2 ^ k - 1) = lN (n % 2 ^ k) := by
  rw [wb_and hn (by have := wb_lt2 hk; omega), Nat.and_two_pow_sub_one_eq_mod]
theorem wb_a1 {n : Nat} (hn : n < 2 ^ 64) : lN n &&& 1 = lN (n % 2) := wb_mask (k := 1) hn (by decide)
theorem wb_bit {n k : Nat} (hn : n < 2 ^ 64) (hk : k < 64) : ((lN n).toUInt64 >>> ((nI k).toInt64.toUInt64 &&& Int64.toUInt64 63)).toInt64 &&& 1 = lN (n / 2 ^ k % 2) := by
  rw [wb_shr hn hk, wb_a1 (Nat.lt_of_le_of_lt (Nat.div_le_self _ _) hn)]
theorem wb_xor {q k : Nat} (hk : k < 63) (h : 2 ^ k ≤ q) (h2 : q < 2 ^ (k + 1)) : lN q ^^^ lN (2 ^ k) = lN (q - 2 ^ k) := by
  obtain ⟨r, rfl⟩ : ∃ r, q = 2 ^ k + r := ⟨q - 2 ^ k, by omega⟩
  have hr : r < 2 ^ k := by rw [Nat.pow_succ] at h2; omega
  have hx : (2 ^ k + r) ^^^ 2 ^ k = r := by
    apply Nat.eq_of_testBit_eq
    intro i
    rw [Nat.testBit_xor, Nat.testBit_two_pow]
    rcases Nat.lt_trichotomy i k with h | h | h
    · rw [Nat.testBit_two_pow_add_gt h]
      simp [show ¬ k = i by omega]
    · subst h
      rw [Nat.testBit_two_pow_add_eq]
      simp
    · have a1 : 2 ^ (k + 1) ≤ 2 ^ i := Nat.pow_le_pow_right (by decide) h
      rw [Nat.testBit_lt_two_pow (show 2 ^ k + r < 2 ^ i by omega), Nat.testBit_lt_two_pow (show r < 2 ^ i by omega)]
      simp [show ¬ k = i by omega]
  have b1 := wb_lt2 (show k + 1 < 64 by omega)
  have b2 := wb_lt2 (show k < 64 by omega)
  apply wb_inj
  rw [Int64.toBitVec_xor, wb_tb, wb_tb, wb_tb]
  apply BitVec.eq_of_toNat_eq
  rw [BitVec.toNat_xor, BitVec.toNat_ofNat, BitVec.toNat_ofNat, BitVec.toNat_ofNat, Nat.mod_eq_of_lt (by omega : 2 ^ k + r < 2 ^ 64), Nat.mod_eq_of_lt b2, hx, Nat.add_sub_cancel_left, Nat.mod_eq_of_lt (by omega)]

/-! ===== Int64 as an unsigned number: uN x ===== -/
def uN (x : Int64) : Nat := x.toUInt64.toNat
theorem uN_lt (x : Int64) : uN x < 18446744073709551616 := x.toUInt64.toNat_lt
theorem uN_inj {x y : Int64} (h : uN x = uN y) : x = y := congrArg UInt64.toInt64 (UInt64.toNat_inj.mp h)
theorem uN_add (x y : Int64) : uN (x + y) = (uN x + uN y) % 18446744073709551616 := by
  show (x.toUInt64 + y.toUInt64).toNat = _
  exact UInt64.toNat_add _ _
theorem uN_mul (x y : Int64) : uN (x * y) = (uN x * uN y) % 18446744073709551616 := by
  show (x.toUInt64 * y.toUInt64).toNat = _
  exact UInt64.toNat_mul _ _
theorem uN_shl (x : Int64) : uN (x <<< ((1 : Int32).toInt64 &&& 63)) = (2 * uN x) % 18446744073709551616 := by
  have h : (((1 : Int32).toInt64 &&& 63).toBitVec.smod 64).toNat = 1 := by decide
  show (x.toBitVec <<< (((1 : Int32).toInt64 &&& 63).toBitVec.smod 64).toNat).toNat = _
  rw [h, BitVec.toNat_shiftLeft, Nat.shiftLeft_eq, Nat.mul_comm]
  rfl
theorem uN_shr (x : Int64) (s : UInt64) : uN (x.toUInt64 >>> s).toInt64 = uN x / 2 ^ (s.toNat % 64) := by
  show (x.toUInt64 >>> s).toNat = _
  rw [UInt64.toNat_shiftRight, Nat.shiftRight_eq_div_pow]
  rfl
theorem uN_s32 (x : Int64) : uN (x.toUInt64 >>> ((32 : Int32).toInt64.toUInt64 &&& Int64.toUInt64 63)).toInt64 = uN x / 4294967296 := by
  have h : ((32 : Int32).toInt64.toUInt64 &&& Int64.toUInt64 63).toNat % 64 = 32 := by decide
  rw [uN_shr, h]
theorem uN_s63 (x : Int64) : uN (x.toUInt64 >>> ((63 : Int32).toInt64.toUInt64 &&& Int64.toUInt64 63)).toInt64 = uN x / 9223372036854775808 := by
  have h : ((63 : Int32).toInt64.toUInt64 &&& Int64.toUInt64 63).toNat % 64 = 63 := by decide
  rw [uN_shr, h]
theorem uN_lo (x : Int64) : uN (x &&& 4294967295) = uN x % 4294967296 := by
  show (x.toUInt64 &&& Int64.toUInt64 4294967295).toNat = _
  rw [UInt64.toNat_and]
  exact Nat.and_two_pow_sub_one_eq_mod _ 32
theorem uN_bit (x : Int64) : (x &&& 1) = 0 ↔ uN x % 2 = 0 := by
  have h : uN (x &&& 1) = uN x % 2 := by
    show (x.toUInt64 &&& Int64.toUInt64 1).toNat = _
    rw [UInt64.toNat_and]
    exact Nat.and_two_pow_sub_one_eq_mod _ 1
  rw [← h]
  exact ⟨fun z => by rw [z]; rfl, fun z => uN_inj (z.trans rfl)⟩
theorem uN_or {x y : Int64} (hy : uN y < 2) : uN ((x <<< ((1 : Int32).toInt64 &&& 63)) ||| y) = (2 * uN x) % 18446744073709551616 + uN y := by
  have h1 : uN ((x <<< ((1 : Int32).toInt64 &&& 63)) ||| y) = uN (x <<< ((1 : Int32).toInt64 &&& 63)) ||| uN y := UInt64.toNat_or _ _
  have h2 : (2 * uN x) % 18446744073709551616 = 2 ^ 1 * (uN x % 9223372036854775808) := by omega
  rw [h1, uN_shl, h2]
  exact (Nat.two_pow_add_eq_or_of_lt (i := 1) hy _).symm
theorem nat_xor {a : Nat} (h : a < 18446744073709551616) : a ^^^ 2 ^ 63 = (a + 9223372036854775808) % 18446744073709551616 := by
  have h1 : (a ^^^ 2 ^ 63) % 2 ^ 63 = a % 2 ^ 63 := by rw [Nat.xor_mod_two_pow, Nat.mod_self, Nat.xor_zero]
  have h2 : (a ^^^ 2 ^ 63) / 2 ^ 63 = (a / 2 ^ 63) ^^^ 1 := by rw [Nat.xor_div_two_pow, Nat.div_self (Nat.two_pow_pos 63)]
  have h3 : a / 2 ^ 63 = 0 ∨ a / 2 ^ 63 = 1 := by omega
  generalize a ^^^ 2 ^ 63 = t at h1 h2
  rcases h3 with h3 | h3
  · rw [h3] at h2
    have h2 : t / 2 ^ 63 = 1 := h2
    omega
  · rw [h3] at h2
    have h2 : t / 2 ^ 63 = 0 := h2
    omega
theorem uN_xor (x : Int64) : uN (x ^^^ (-9223372036854775808)) = (uN x + 9223372036854775808) % 18446744073709551616 := by
  rw [← nat_xor (uN_lt x)]
  exact UInt64.toNat_xor _ _
theorem uN_int (x : Int64) : x.toInt = if 2 * uN x < 18446744073709551616 then (uN x : Int) else (uN x : Int) - 18446744073709551616 := BitVec.toInt_eq_toNat_cond _
theorem uN_le (x y : Int64) : (x ^^^ (-9223372036854775808)) ≤ (y ^^^ (-9223372036854775808)) ↔ uN x ≤ uN y := by
  have hx := uN_lt x
  have hy := uN_lt y
  rw [Int64.le_iff_toInt_le, uN_int, uN_int, uN_xor, uN_xor]
  omega
theorem uN_sk (x : Int64) {k : Nat} (hk : k < 64) : uN (x.toUInt64 >>> ((nI k).toInt64.toUInt64 &&& Int64.toUInt64 63)).toInt64 = uN x / 2 ^ k := by
  have h : ((nI k).toInt64.toUInt64 &&& Int64.toUInt64 63).toNat % 64 = k := by
    rw [nI_l (by omega), UInt64.toNat_and]
    have e : (lN k).toUInt64.toNat = k % 2 ^ 64 := rfl
    have e2 : (Int64.toUInt64 63).toNat = 2 ^ 6 - 1 := by decide
    rw [e, e2, Nat.and_two_pow_sub_one_eq_mod]
    omega
  rw [uN_shr, h]

/-! ===== Int64 masks of n low bits ===== -/
theorem cr_bits (W U M : BitVec 64) : ((W &&& U) &&& (U &&& (M ^^^ BitVec.allOnes 64))) = 0#64 ↔ (W &&& U) &&& M = W &&& U := by
  constructor
  · intro h
    apply BitVec.eq_of_getLsbD_eq
    intro i hi
    have e := congrArg (fun x => BitVec.getLsbD x i) h
    simp only [BitVec.getLsbD_and, BitVec.getLsbD_xor, BitVec.getLsbD_allOnes, BitVec.getLsbD_zero, hi, decide_true] at e ⊢
    revert e
    cases W.getLsbD i <;> cases U.getLsbD i <;> cases M.getLsbD i <;> decide
  · intro h
    apply BitVec.eq_of_getLsbD_eq
    intro i hi
    have e := congrArg (fun x => BitVec.getLsbD x i) h
    simp only [BitVec.getLsbD_and, BitVec.getLsbD_xor, BitVec.getLsbD_allOnes, BitVec.getLsbD_zero, hi, decide_true] at e ⊢
    revert e
    cases W.getLsbD i <;> cases U.getLsbD i <;> cases M.getLsbD i <;> decide
theorem cr_mask (w U m : Int64) (n : Nat) (hm : m.toBitVec.toNat = 2 ^ n - 1) : ((w &&& U) &&& (U &&& (m ^^^ (-1)))) = 0 ↔ (w &&& U).toBitVec.toNat < 2 ^ n := by
  have e0 : (-1 : Int64).toBitVec = BitVec.allOnes 64 := by decide
  have z0 : (0 : Int64).toBitVec = 0#64 := by decide
  rw [← Int64.toBitVec_inj, z0, Int64.toBitVec_and, Int64.toBitVec_and, Int64.toBitVec_and, Int64.toBitVec_xor, e0, cr_bits]
  generalize w.toBitVec &&& U.toBitVec = T
  rw [← BitVec.toNat_inj, BitVec.toNat_and, hm, Nat.and_two_pow_sub_one_eq_mod]
  constructor
  · intro h
    have t := Nat.mod_lt T.toNat (Nat.two_pow_pos n)
    rw [h] at t
    exact t
  · exact Nat.mod_eq_of_lt
theorem cr_shr (t : Int64) (x : UInt64) (n : Nat) (hx : x.toNat % 64 = n) : (t.toUInt64 >>> x).toInt64 = 0 ↔ t.toBitVec.toNat < 2 ^ n := by
  rw [← Int64.toBitVec_inj, ← BitVec.toNat_inj]
  show (t.toUInt64 >>> x).toNat = 0 ↔ t.toUInt64.toNat < 2 ^ n
  rw [UInt64.toNat_shiftRight, hx, Nat.shiftRight_eq_div_pow]
  constructor
  · intro h
    have d : t.toUInt64.toNat / 2 ^ n < 1 := by
      rw [h]
      decide
    have e := (Nat.div_lt_iff_lt_mul (Nat.two_pow_pos n)).mp d
    rw [Nat.one_mul] at e
    exact e
  · exact Nat.div_eq_of_lt
theorem cr_amt (s : Int64) : ∃ n, n < 64 ∧ s &&& 63 = lN n ∧ (s.toUInt64 &&& Int64.toUInt64 63).toNat % 64 = n := by
  have e : (s.toUInt64 &&& Int64.toUInt64 63).toNat = s.toUInt64.toNat % 2 ^ 6 := by
    rw [UInt64.toNat_and, show (Int64.toUInt64 63).toNat = 2 ^ 6 - 1 from by decide, Nat.and_two_pow_sub_one_eq_mod]
  refine ⟨s.toUInt64.toNat % 2 ^ 6, by omega, ?_, by omega⟩
  rw [← Int64.toBitVec_inj, ← BitVec.toNat_inj]
  show (s.toUInt64 &&& Int64.toUInt64 63).toNat = (BitVec.ofNat 64 (s.toUInt64.toNat % 2 ^ 6)).toNat
  rw [e, BitVec.toNat_ofNat]
  omega
end
section
section
/-! numbers against literals -/
theorem ba_e0 {a : Nat} (h : a < 2 ^ 31) : nI a = 0 ↔ a = 0 := nI_eq (b := 0) h (by decide)
theorem ba_le0 {a : Nat} (h : a < 2 ^ 31) : nI a ≤ 0 ↔ a = 0 := by
  have := nI_leI (b := 0) h (by decide); rw [nI_0] at this; rw [this]; omega
theorem ba_lt0 {a : Nat} (h : a < 2 ^ 31) : nI a < 0 ↔ False := by
  simp only [nI_pos h]
theorem ba_ge0 {a : Nat} (h : a < 2 ^ 31) : 0 ≤ nI a ↔ True := by
  simp only [nI_pos' h]
theorem ba_e1 {a : Nat} (h : a < 2 ^ 31) : nI a = 1 ↔ a = 1 := nI_eq (b := 1) h (by decide)
theorem ba_le1 {a : Nat} (h : a < 2 ^ 31) : nI a ≤ 1 ↔ a ≤ 1 := nI_leI (b := 1) h (by decide)
theorem ba_ge1 {a : Nat} (h : a < 2 ^ 31) : 1 ≤ nI a ↔ 1 ≤ a := nI_leI (a := 1) (by decide) h
theorem ba_lt1 {a : Nat} (h : a < 2 ^ 31) : nI a < 1 ↔ a < 1 := nI_ltI (b := 1) h (by decide)
theorem ba_gt1 {a : Nat} (h : a < 2 ^ 31) : 1 < nI a ↔ 1 < a := nI_ltI (a := 1) (by decide) h
theorem ba_e2 {a : Nat} (h : a < 2 ^ 31) : nI a = 2 ↔ a = 2 := nI_eq (b := 2) h (by decide)
theorem ba_le2 {a : Nat} (h : a < 2 ^ 31) : nI a ≤ 2 ↔ a ≤ 2 := nI_leI (b := 2) h (by decide)
theorem ba_ge2 {a : Nat} (h : a < 2 ^ 31) : 2 ≤ nI a ↔ 2 ≤ a := nI_leI (a := 2) (by decide) h
theorem ba_lt2 {a : Nat} (h : a < 2 ^ 31) : nI a < 2 ↔ a < 2 := nI_ltI (b := 2) h (by decide)
theorem ba_gt2 {a : Nat} (h : a < 2 ^ 31) : 2 < nI a ↔ 2 < a := nI_ltI (a := 2) (by decide) h
theorem ba_e3 {a : Nat} (h : a < 2 ^ 31) : nI a = 3 ↔ a = 3 := nI_eq (b := 3) h (by decide)
theorem ba_le3 {a : Nat} (h : a < 2 ^ 31) : nI a ≤ 3 ↔ a ≤ 3 := nI_leI (b := 3) h (by decide)
theorem ba_ge3 {a : Nat} (h : a < 2 ^ 31) : 3 ≤ nI a ↔ 3 ≤ a := nI_leI (a := 3) (by decide) h
theorem ba_lt3 {a : Nat} (h : a < 2 ^ 31) : nI a < 3 ↔ a < 3 := nI_ltI (b := 3) h (by decide)
theorem ba_gt3 {a : Nat} (h : a < 2 ^ 31) : 3 < nI a ↔ 3 < a := nI_ltI (a := 3) (by decide) h
theorem ba_e4 {a : Nat} (h : a < 2 ^ 31) : nI a = 4 ↔ a = 4 := nI_eq (b := 4) h (by decide)
theorem ba_le4 {a : Nat} (h : a < 2 ^ 31) : nI a ≤ 4 ↔ a ≤ 4 := nI_leI (b := 4) h (by decide)
theorem ba_ge4 {a : Nat} (h : a < 2 ^ 31) : 4 ≤ nI a ↔ 4 ≤ a := nI_leI (a := 4) (by decide) h
theorem ba_lt4 {a : Nat} (h : a < 2 ^ 31) : nI a < 4 ↔ a < 4 := nI_ltI (b := 4) h (by decide)
theorem ba_gt4 {a : Nat} (h : a < 2 ^ 31) : 4 < nI a ↔ 4 < a := nI_ltI (a := 4) (by decide) h
theorem ba_e5 {a : Nat} (h : a < 2 ^ 31) : nI a = 5 ↔ a = 5 := nI_eq (b := 5) h (by decide)
theorem ba_le5 {a : Nat} (h : a < 2 ^ 31) : nI a ≤ 5 ↔ a ≤ 5 := nI_leI (b := 5) h (by decide)
theorem ba_ge5 {a : Nat} (h : a < 2 ^ 31) : 5 ≤ nI a ↔ 5 ≤ a := nI_leI (a := 5) (by decide) h
theorem ba_lt5 {a : Nat} (h : a < 2 ^ 31) : nI a < 5 ↔ a < 5 := nI_ltI (b := 5) h (by decide)
theorem ba_gt5 {a : Nat} (h : a < 2 ^ 31) : 5 < nI a ↔ 5 < a := nI_ltI (a := 5) (by decide) h
theorem ba_e6 {a : Nat} (h : a < 2 ^ 31) : nI a = 6 ↔ a = 6 := nI_eq (b := 6) h (by decide)
theorem ba_le6 {a : Nat} (h : a < 2 ^ 31) : nI a ≤ 6 ↔ a ≤ 6 := nI_leI (b := 6) h (by decide)
theorem ba_ge6 {a : Nat} (h : a < 2 ^ 31) : 6 ≤ nI a ↔ 6 ≤ a := nI_leI (a := 6) (by decide) h
theorem ba_lt6 {a : Nat} (h : a < 2 ^ 31) : nI a < 6 ↔ a < 6 := nI_ltI (b := 6) h (by decide)
theorem ba_gt6 {a : Nat} (h : a < 2 ^ 31) : 6 < nI a ↔ 6 < a := nI_ltI (a := 6) (by decide) h
theorem ba_e7 {a : Nat} (h : a < 2 ^ 31) : nI a = 7 ↔ a = 7 := nI_eq (b := 7) h (by decide)
theorem ba_le7 {a : Nat} (h : a < 2 ^ 31) : nI a ≤ 7 ↔ a ≤ 7 := nI_leI (b := 7) h (by decide)
theorem ba_ge7 {a : Nat} (h : a < 2 ^ 31) : 7 ≤ nI a ↔ 7 ≤ a := nI_leI (a := 7) (by decide) h
theorem ba_lt7 {a : Nat} (h : a < 2 ^ 31) : nI a < 7 ↔ a < 7 := nI_ltI (b := 7) h (by decide)
theorem ba_gt7 {a : Nat} (h : a < 2 ^ 31) : 7 < nI a ↔ 7 < a := nI_ltI (a := 7) (by decide) h
theorem ba_e8 {a : Nat} (h : a < 2 ^ 31) : nI a = 8 ↔ a = 8 := nI_eq (b := 8) h (by decide)
theorem ba_le8 {a : Nat} (h : a < 2 ^ 31) : nI a ≤ 8 ↔ a ≤ 8 := nI_leI (b := 8) h (by decide)
theorem ba_ge8 {a : Nat} (h : a < 2 ^ 31) : 8 ≤ nI a ↔ 8 ≤ a := nI_leI (a := 8) (by decide) h
theorem ba_lt8 {a : Nat} (h : a < 2 ^ 31) : nI a < 8 ↔ a < 8 := nI_ltI (b := 8) h (by decide)
theorem ba_gt8 {a : Nat} (h : a < 2 ^ 31) : 8 < nI a ↔ 8 < a := nI_ltI (a := 8) (by decide) h
theorem ba_e9 {a : Nat} (h : a < 2 ^ 31) : nI a = 9 ↔ a = 9 := nI_eq (b := 9) h (by decide)
theorem ba_le9 {a : Nat} (h : a < 2 ^ 31) : nI a ≤ 9 ↔ a ≤ 9 := nI_leI (b := 9) h (by decide)
theorem ba_ge9 {a : Nat} (h : a < 2 ^ 31) : 9 ≤ nI a ↔ 9 ≤ a := nI_leI (a := 9) (by decide) h
theorem ba_lt9 {a : Nat} (h : a < 2 ^ 31) : nI a < 9 ↔ a < 9 := nI_ltI (b := 9) h (by decide)
theorem ba_gt9 {a : Nat} (h : a < 2 ^ 31) : 9 < nI a ↔ 9 < a := nI_ltI (a := 9) (by decide) h
theorem ba_e10 {a : Nat} (h : a < 2 ^ 31) : nI a = 10 ↔ a = 10 := nI_eq (b := 10) h (by decide)
theorem ba_le10 {a : Nat} (h : a < 2 ^ 31) : nI a ≤ 10 ↔ a ≤ 10 := nI_leI (b := 10) h (by decide)
theorem ba_ge10 {a : Nat} (h : a < 2 ^ 31) : 10 ≤ nI a ↔ 10 ≤ a := nI_leI (a := 10) (by decide) h
theorem ba_lt10 {a : Nat} (h : a < 2 ^ 31) : nI a < 10 ↔ a < 10 := nI_ltI (b := 10) h (by decide)
theorem ba_gt10 {a : Nat} (h : a < 2 ^ 31) : 10 < nI a ↔ 10 < a := nI_ltI (a := 10) (by decide) h
theorem ba_e15 {a : Nat} (h : a < 2 ^ 31) : nI a = 15 ↔ a = 15 := nI_eq (b := 15) h (by decide)
theorem ba_le15 {a : Nat} (h : a < 2 ^ 31) : nI a ≤ 15 ↔ a ≤ 15 := nI_leI (b := 15) h (by decide)
theorem ba_ge15 {a : Nat} (h : a < 2 ^ 31) : 15 ≤ nI a ↔ 15 ≤ a := nI_leI (a := 15) (by decide) h
theorem ba_lt15 {a : Nat} (h : a < 2 ^ 31) : nI a < 15 ↔ a < 15 := nI_ltI (b := 15) h (by decide)
theorem ba_gt15 {a : Nat} (h : a < 2 ^ 31) : 15 < nI a ↔ 15 < a := nI_ltI (a := 15) (by decide) h
theorem ba_e16 {a : Nat} (h : a < 2 ^ 31) : nI a = 16 ↔ a = 16 := nI_eq (b := 16) h (by decide)
theorem ba_le16 {a : Nat} (h : a < 2 ^ 31) : nI a ≤ 16 ↔ a ≤ 16 := nI_leI (b := 16) h (by decide)
theorem ba_ge16 {a : Nat} (h : a < 2 ^ 31) : 16 ≤ nI a ↔ 16 ≤ a := nI_leI (a := 16) (by decide) h
theorem ba_lt16 {a : Nat} (h : a < 2 ^ 31) : nI a < 16 ↔ a < 16 := nI_ltI (b := 16) h (by decide)
theorem ba_gt16 {a : Nat} (h : a < 2 ^ 31) : 16 < nI a ↔ 16 < a := nI_ltI (a := 16) (by decide) h
theorem ba_e20 {a : Nat} (h : a < 2 ^ 31) : nI a = 20 ↔ a = 20 := nI_eq (b := 20) h (by decide)
theorem ba_le20 {a : Nat} (h : a < 2 ^ 31) : nI a ≤ 20 ↔ a ≤ 20 := nI_leI (b := 20) h (by decide)
theorem ba_ge20 {a : Nat} (h : a < 2 ^ 31) : 20 ≤ nI a ↔ 20 ≤ a := nI_leI (a := 20) (by decide) h
theorem ba_lt20 {a : Nat} (h : a < 2 ^ 31) : nI a < 20 ↔ a < 20 := nI_ltI (b := 20) h (by decide)
theorem ba_gt20 {a : Nat} (h : a < 2 ^ 31) : 20 < nI a ↔ 20 < a := nI_ltI (a := 20) (by decide) h
theorem ba_e40 {a : Nat} (h : a < 2 ^ 31) : nI a = 40 ↔ a = 40 := nI_eq (b := 40) h (by decide)
theorem ba_le40 {a : Nat} (h : a < 2 ^ 31) : nI a ≤ 40 ↔ a ≤ 40 := nI_leI (b := 40) h (by decide)
theorem ba_ge40 {a : Nat} (h : a < 2 ^ 31) : 40 ≤ nI a ↔ 40 ≤ a := nI_leI (a := 40) (by decide) h
theorem ba_lt40 {a : Nat} (h : a < 2 ^ 31) : nI a < 40 ↔ a < 40 := nI_ltI (b := 40) h (by decide)
theorem ba_gt40 {a : Nat} (h : a < 2 ^ 31) : 40 < nI a ↔ 40 < a := nI_ltI (a := 40) (by decide) h
theorem ba_e63 {a : Nat} (h : a < 2 ^ 31) : nI a = 63 ↔ a = 63 := nI_eq (b := 63) h (by decide)
theorem ba_le63 {a : Nat} (h : a < 2 ^ 31) : nI a ≤ 63 ↔ a ≤ 63 := nI_leI (b := 63) h (by decide)
theorem ba_ge63 {a : Nat} (h : a < 2 ^ 31) : 63 ≤ nI a ↔ 63 ≤ a := nI_leI (a := 63) (by decide) h
theorem ba_lt63 {a : Nat} (h : a < 2 ^ 31) : nI a < 63 ↔ a < 63 := nI_ltI (b := 63) h (by decide)
theorem ba_gt63 {a : Nat} (h : a < 2 ^ 31) : 63 < nI a ↔ 63 < a := nI_ltI (a := 63) (by decide) h
theorem ba_e100 {a : Nat} (h : a < 2 ^ 31) : nI a = 100 ↔ a = 100 := nI_eq (b := 100) h (by decide)
theorem ba_le100 {a : Nat} (h : a < 2 ^ 31) : nI a ≤ 100 ↔ a ≤ 100 := nI_leI (b := 100) h (by decide)
theorem ba_ge100 {a : Nat} (h : a < 2 ^ 31) : 100 ≤ nI a ↔ 100 ≤ a := nI_leI (a := 100) (by decide) h
theorem ba_lt100 {a : Nat} (h : a < 2 ^ 31) : nI a < 100 ↔ a < 100 := nI_ltI (b := 100) h (by decide)
theorem ba_gt100 {a : Nat} (h : a < 2 ^ 31) : 100 < nI a ↔ 100 < a := nI_ltI (a := 100) (by decide) h
theorem ba_e127 {a : Nat} (h : a < 2 ^ 31) : nI a = 127 ↔ a = 127 := nI_eq (b := 127) h (by decide)
theorem ba_le127 {a : Nat} (h : a < 2 ^ 31) : nI a ≤ 127 ↔ a ≤ 127 := nI_leI (b := 127) h (by decide)
theorem ba_ge127 {a : Nat} (h : a < 2 ^ 31) : 127 ≤ nI a ↔ 127 ≤ a := nI_leI (a := 127) (by decide) h
theorem ba_lt127 {a : Nat} (h : a < 2 ^ 31) : nI a < 127 ↔ a < 127 := nI_ltI (b := 127) h (by decide)
theorem ba_gt127 {a : Nat} (h : a < 2 ^ 31) : 127 < nI a ↔ 127 < a := nI_ltI (a := 127) (by decide) h
theorem ba_e128 {a : Nat} (h : a < 2 ^ 31) : nI a = 128 ↔ a = 128 := nI_eq (b := 128) h (by decide)
theorem ba_le128 {a : Nat} (h : a < 2 ^ 31) : nI a ≤ 128 ↔ a ≤ 128 := nI_leI (b := 128) h (by decide)
theorem ba_ge128 {a : Nat} (h : a < 2 ^ 31) : 128 ≤ nI a ↔ 128 ≤ a := nI_leI (a := 128) (by decide) h
theorem ba_lt128 {a : Nat} (h : a < 2 ^ 31) : nI a < 128 ↔ a < 128 := nI_ltI (b := 128) h (by decide)
theorem ba_gt128 {a : Nat} (h : a < 2 ^ 31) : 128 < nI a ↔ 128 < a := nI_ltI (a := 128) (by decide) h
theorem ba_e150 {a : Nat} (h : a < 2 ^ 31) : nI a = 150 ↔ a = 150 := nI_eq (b := 150) h (by decide)
theorem ba_le150 {a : Nat} (h : a < 2 ^ 31) : nI a ≤ 150 ↔ a ≤ 150 := nI_leI (b := 150) h (by decide)
theorem ba_ge150 {a : Nat} (h : a < 2 ^ 31) : 150 ≤ nI a ↔ 150 ≤ a := nI_leI (a := 150) (by decide) h
theorem ba_lt150 {a : Nat} (h : a < 2 ^ 31) : nI a < 150 ↔ a < 150 := nI_ltI (b := 150) h (by decide)
theorem ba_gt150 {a : Nat} (h : a < 2 ^ 31) : 150 < nI a ↔ 150 < a := nI_ltI (a := 150) (by decide) h
theorem ba_e255 {a : Nat} (h : a < 2 ^ 31) : nI a = 255 ↔ a = 255 := nI_eq (b := 255) h (by decide)
theorem ba_le255 {a : Nat} (h : a < 2 ^ 31) : nI a ≤ 255 ↔ a ≤ 255 := nI_leI (b := 255) h (by decide)
theorem ba_ge255 {a : Nat} (h : a < 2 ^ 31) : 255 ≤ nI a ↔ 255 ≤ a := nI_leI (a := 255) (by decide) h
theorem ba_lt255 {a : Nat} (h : a < 2 ^ 31) : nI a < 255 ↔ a < 255 := nI_ltI (b := 255) h (by decide)
theorem ba_gt255 {a : Nat} (h : a < 2 ^ 31) : 255 < nI a ↔ 255 < a := nI_ltI (a := 255) (by decide) h
theorem ba_e400 {a : Nat} (h : a < 2 ^ 31) : nI a = 400 ↔ a = 400 := nI_eq (b := 400) h (by decide)
theorem ba_le400 {a : Nat} (h : a < 2 ^ 31) : nI a ≤ 400 ↔ a ≤ 400 := nI_leI (b := 400) h (by decide)
theorem ba_ge400 {a : Nat} (h : a < 2 ^ 31) : 400 ≤ nI a ↔ 400 ≤ a := nI_leI (a := 400) (by decide) h
theorem ba_lt400 {a : Nat} (h : a < 2 ^ 31) : nI a < 400 ↔ a < 400 := nI_ltI (b := 400) h (by decide)
theorem ba_gt400 {a : Nat} (h : a < 2 ^ 31) : 400 < nI a ↔ 400 < a := nI_ltI (a := 400) (by decide) h
theorem ba_e2000 {a : Nat} (h : a < 2 ^ 31) : nI a = 2000 ↔ a = 2000 := nI_eq (b := 2000) h (by decide)
theorem ba_le2000 {a : Nat} (h : a < 2 ^ 31) : nI a ≤ 2000 ↔ a ≤ 2000 := nI_leI (b := 2000) h (by decide)
theorem ba_ge2000 {a : Nat} (h : a < 2 ^ 31) : 2000 ≤ nI a ↔ 2000 ≤ a := nI_leI (a := 2000) (by decide) h
theorem ba_lt2000 {a : Nat} (h : a < 2 ^ 31) : nI a < 2000 ↔ a < 2000 := nI_ltI (b := 2000) h (by decide)
theorem ba_gt2000 {a : Nat} (h : a < 2 ^ 31) : 2000 < nI a ↔ 2000 < a := nI_ltI (a := 2000) (by decide) h
theorem ba_m1lt : (-1 : Int32) < 0 := by decide
theorem ba_m1le : ¬ (0 : Int32) ≤ -1 := by decide
theorem ba_em1 {a : Nat} (h : a < 2 ^ 31) : nI a = -1 ↔ False := by
  refine ⟨fun e => ?_, False.elim⟩
  have := nI_pos (n := a) h
  rw [e] at this
  exact this ba_m1lt
theorem ba_em2 {a : Nat} (h : a < 2 ^ 31) : nI a = -2 ↔ False := by
  refine ⟨fun e => ?_, False.elim⟩
  have := nI_pos (n := a) h
  rw [e] at this
  exact this (by decide)
theorem ba_em3 {a : Nat} (h : a < 2 ^ 31) : nI a = -3 ↔ False := by
  refine ⟨fun e => ?_, False.elim⟩
  have := nI_pos (n := a) h
  rw [e] at this
  exact this (by decide)
theorem ba_s1 {n : Nat} (h : 0 < n) : nI n - 1 = nI (n - 1) := by
  obtain ⟨m, rfl⟩ : ∃ m, n = m + 1 := ⟨n - 1, by omega⟩
  exact nI_pred m
theorem ba_m1 {n : Nat} (h : 0 < n) : nI n + (-1) = nI (n - 1) := by
  obtain ⟨m, rfl⟩ : ∃ m, n = m + 1 := ⟨n - 1, by omega⟩
  exact pk_m1 m
theorem ba_5 (a : Nat) : 5 * nI a = nI (5 * a) := pk_mul 5 a
theorem ba_7 (a : Nat) : 7 * nI a = nI (7 * a) := pk_mul 7 a
theorem ba_20 (a : Nat) : 20 * nI a = nI (20 * a) := pk_mul 20 a
theorem ba_100 (a : Nat) : 100 * nI a = nI (100 * a) := pk_mul 100 a
theorem ba_p7 (a : Nat) : nI a + 7 = nI (a + 7) := nI_add a 7
theorem ba_inj {a b : Nat} (h : nI a = nI b) (ha : a < 2 ^ 31) (hb : b < 2 ^ 31) : a = b := (nI_eq ha hb).mp h
/-! small types -/
theorem ba_b {n : Nat} (h : n < 128) : (nI n).toInt8.toInt32 = nI n := lg_i2b_small (by rw [nI_toInt (by omega)]; omega) (by rw [nI_toInt (by omega)]; omega)
theorem ba_s {n : Nat} (h : n < 32768) : (nI n).toInt16.toInt32 = nI n := lg_i2s_small (by rw [nI_toInt (by omega)]; omega) (by rw [nI_toInt (by omega)]; omega)
theorem ba_vb {n : Nat} (h : n < 128) : vp_nar .byte (nI n) = nI n := ba_b h
theorem ba_vs {n : Nat} (h : n < 32768) : vp_nar .short (nI n) = nI n := ba_s h
theorem ba_vb0 : vp_nar .byte 0 = 0 := by decide
theorem ba_vbm : vp_nar .byte (-1) = -1 := by decide
theorem ba_vb127 : vp_nar .byte 127 = 127 := by decide
theorem ba_vz0 : vp_nar .boolean 0 = 0 := by decide
theorem ba_vz1 : vp_nar .boolean 1 = 1 := by decide
theorem ba_sm : (-1 : Int32).toInt16.toInt32 = -1 := by decide
theorem ba_vsm : vp_nar .short (-1) = -1 := by decide
theorem ba_bm : (-1 : Int32).toInt8.toInt32 = -1 := by decide
theorem ba_b0 : (0 : Int32).toInt8.toInt32 = 0 := by decide
theorem ba_s0 : (0 : Int32).toInt16.toInt32 = 0 := by decide
/-! stores -/
theorem ba_us {f : Nat → Int32} {k : Nat} {x : Int32} : upd f k x k = x := if_pos rfl
theorem ba_un {f : Nat → Int32} {k j : Nat} {x : Int32} (h : j ≠ k) : upd f k x j = f j := if_neg h
theorem ba_uLs {f : Nat → Int64} {k : Nat} {x : Int64} : vp_updL f k x k = x := if_pos rfl
theorem ba_uLn {f : Nat → Int64} {k j : Nat} {x : Int64} (h : j ≠ k) : vp_updL f k x j = f j := if_neg h
theorem ba_uu {f : Nat → Int32} {k : Nat} {x : Int32} (h : f k = x) : upd f k x = f := by
  funext j
  by_cases e : j = k
  · rw [e, ba_us, h]
  · rw [ba_un e]
/-- a ghost's store -/
def gh_u {α : Type} (f : Nat → α) (k : Nat) (x : α) : Nat → α := fun j => if j = k then x else f j
theorem gh_us {α : Type} {f : Nat → α} {k : Nat} {x : α} : gh_u f k x k = x := if_pos rfl
theorem gh_un {α : Type} {f : Nat → α} {k j : Nat} {x : α} (h : j ≠ k) : gh_u f k x j = f j := if_neg h
/-! longs -/
theorem ba_lI {n : Nat} (h : n < 2 ^ 31) : (nI n).toInt64 = lN n := nI_l h
theorem ba_l0 : (0 : Int64) = lN 0 := rfl
end
end
section
section
variable {xT xL xC xG xV xA xF xD xN xS xK xI yW yV yD yR yA yF yO : Int32} {kk kb kp kn ki ka kh kd kf xb vt va ve xo xt xp xl xd xm xz xu xe xc xf kg yb yw yt ys yc yl yn yo ym yf tv tt tg yp yh : Nat → Int32} {nu rs vn yv : Nat → Int64}
variable {D B P I : Nat → Nat} {T : Nat}
/-! the tables of types, as naturals -/
def sc_A (D B P I : Nat → Nat) (kk kb kp ki : Nat → Int32) : Prop :=
  (∀ j, kk j = nI (D j)) ∧ (∀ j, D j ≤ 9) ∧ (∀ j, kb j = nI (B j)) ∧ (∀ j, B j < 20) ∧ (∀ j, kp j = nI (P j)) ∧ (∀ j, P j ≤ 5) ∧ (∀ j, ki j = nI (I j)) ∧ (∀ j, I j < 20)
theorem sc_k (h : sc_A D B P I kk kb kp ki) : ∀ j, kk j = nI (D j) := h.1
theorem sc_k9 (h : sc_A D B P I kk kb kp ki) (j : Nat) : D j ≤ 9 := h.2.1 j
theorem sc_b (h : sc_A D B P I kk kb kp ki) : ∀ j, kb j = nI (B j) := h.2.2.1
theorem sc_b20 (h : sc_A D B P I kk kb kp ki) (j : Nat) : B j < 20 := h.2.2.2.1 j
theorem sc_p (h : sc_A D B P I kk kb kp ki) : ∀ j, kp j = nI (P j) := h.2.2.2.2.1
theorem sc_p5 (h : sc_A D B P I kk kb kp ki) (j : Nat) : P j ≤ 5 := h.2.2.2.2.2.1 j
theorem sc_i (h : sc_A D B P I kk kb kp ki) : ∀ j, ki j = nI (I j) := h.2.2.2.2.2.2.1
theorem sc_i20 (h : sc_A D B P I kk kb kp ki) (j : Nat) : I j < 20 := h.2.2.2.2.2.2.2 j
/-- .. and what holds of the types that are there -/
def sc_T (T : Nat) (D B P I : Nat → Nat) (kn kh kd kg : Nat → Int32) : Prop :=
  T ≤ 20 ∧ (∀ j, T ≤ j → P j = 0) ∧ (∀ j, I j ≤ T - 1) ∧ (∀ j, D j = 7 → j < T ∧ B j < T) ∧ (∀ j, D j = 6 → B j ≤ 8)
  ∧ (∀ t k, D t = 8 → k < P t → ¬ D (I (5 * t + k)) = 8) ∧ (∀ j, 0 ≤ kn j ∧ kn j < 16) ∧ (∀ j, (kh j = 0 ∧ kd j = 0) ∨ (kh j = 1 ∧ kd j = kg j))
theorem sc_T20 (h : sc_T T D B P I kn kh kd kg) : T ≤ 20 := h.1
theorem sc_p0 (h : sc_T T D B P I kn kh kd kg) {j : Nat} (z : T ≤ j) : P j = 0 := h.2.1 j z
theorem sc_iT (h : sc_T T D B P I kn kh kd kg) (j : Nat) (z : 0 < T) : I j < T := by have := h.2.2.1 j; omega
theorem sc_bT (h : sc_T T D B P I kn kh kd kg) {j : Nat} (z : D j = 7) : j < T ∧ B j < T := h.2.2.2.1 j z
theorem sc_b8 (h : sc_T T D B P I kn kh kd kg) {j : Nat} (z : D j = 6) : B j ≤ 8 := h.2.2.2.2.1 j z
theorem sc_u (h : sc_T T D B P I kn kh kd kg) {t k : Nat} (z : D t = 8) (hk : k < P t) : ¬ D (I (5 * t + k)) = 8 := h.2.2.2.2.2.1 t k z hk
theorem sc_n (h : sc_T T D B P I kn kh kd kg) (j : Nat) : 0 ≤ kn j ∧ kn j < 16 := h.2.2.2.2.2.2.1 j
theorem sc_h (h : sc_T T D B P I kn kh kd kg) (j : Nat) : (kh j = 0 ∧ kd j = 0) ∨ (kh j = 1 ∧ kd j = kg j) := h.2.2.2.2.2.2.2 j
/-! a part by its name -/
def sc_fd (kn : Nat → Int32) (x : Int32) (b : Nat) : Nat → Nat → Int32
  | 0, _ => -1
  | m + 1, k => if kn (b + k) = x then nI k else sc_fd kn x b m (k + 1)
def sc_find (P : Nat → Nat) (kn : Nat → Int32) (t : Nat) (x : Int32) : Int32 := sc_fd kn x (5 * t) (P t) 0
theorem sc_fd_r (x : Int32) (b : Nat) : ∀ m k : Nat, k + m ≤ 5 → (sc_fd kn x b m k = -1 ∧ ∀ j, k ≤ j → j < k + m → ¬ kn (b + j) = x) ∨ (∃ f, k ≤ f ∧ f < k + m ∧ sc_fd kn x b m k = nI f ∧ kn (b + f) = x) := by
  intro m
  induction m with
  | zero => exact fun k _ => Or.inl ⟨rfl, fun j h1 h2 => by omega⟩
  | succ m ih =>
    intro k hk
    by_cases e : kn (b + k) = x
    · exact Or.inr ⟨k, by omega, by omega, if_pos e, e⟩
    · have ee : sc_fd kn x b (m + 1) k = sc_fd kn x b m (k + 1) := if_neg e
      rw [ee]
      rcases ih (k + 1) (by omega) with ⟨h1, h2⟩ | ⟨f, h1, h2, h3, h4⟩
      · refine Or.inl ⟨h1, fun j a b' => ?_⟩
        by_cases z : j = k
        · rw [z]; exact e
        · exact h2 j (by omega) (by omega)
      · exact Or.inr ⟨f, by omega, by omega, h3, h4⟩
theorem sc_find_r {t : Nat} (x : Int32) (h5 : P t ≤ 5) : (sc_find P kn t x = -1 ∧ ∀ j, j < P t → ¬ kn (5 * t + j) = x) ∨ (∃ f, f < P t ∧ sc_find P kn t x = nI f ∧ kn (5 * t + f) = x) := by
  rcases sc_fd_r (kn := kn) x (5 * t) (P t) 0 (by omega) with ⟨h1, h2⟩ | ⟨f, h1, h2, h3, h4⟩
  · exact Or.inl ⟨h1, fun j hj => h2 j (by omega) (by omega)⟩
  · exact Or.inr ⟨f, by omega, h3, h4⟩
theorem xn_2 (hA : sc_A D B P I kk kb kp ki) {post : Int32 → Prop} {t : Nat} {x : Int32} (ht : t < 20) : ∀ m k n : Nat, k + m = P t → m < n → post (sc_fd kn x (5 * t) m k) → (wX_named_2 post (nI t) x xT xL xC xG xV xA xF xD xN xS xK xI kk kb kp kn ki ka kh kd kf xb nu rs vt vn va ve xo xt xp xl xd xm xz xu xe xc xf n (nI k)) := by
  intro m
  have h5 := sc_p5 hA t
  induction m with
  | zero =>
    intro k n hk hn hp
    obtain ⟨n, rfl⟩ : ∃ n', n = n' + 1 := ⟨n - 1, by omega⟩
    refine And.intro (vp_in_nI ht (by decide)) (br_t ?_ hp)
    rw [nI_clamp (by omega), sc_p hA]
    exact nI_le (by omega) (by omega)
  | succ m ih =>
    intro k n hk hn hp
    obtain ⟨n, rfl⟩ : ∃ n', n = n' + 1 := ⟨n - 1, by omega⟩
    refine And.intro (vp_in_nI ht (by decide)) (br_f ?_ ?_)
    · rw [nI_clamp (by omega), sc_p hA]
      exact nI_ge (by omega) (by omega)
    · rw [ba_5, nI_add, nI_clamp (by omega)]
      refine ⟨vp_in_nI (by omega) (by decide), ?_⟩
      by_cases e : kn (5 * t + k) = x
      · rw [sc_fd, if_pos e] at hp
        exact br_t e hp
      · rw [sc_fd, if_neg e] at hp
        exact br_f e (nm_r (nI_1 k) (ih (k + 1) n (by omega) (by omega) hp))
theorem xn_named (hA : sc_A D B P I kk kb kp ki) {post : Int32 → Prop} {t : Nat} {x : Int32} (ht : t < 20) (hp : post (sc_find P kn t x)) : (wpX_named post (xT, xL, xC, xG, xV, xA, xF, xD, xN, xS, xK, xI, kk, kb, kp, kn, ki, ka, kh, kd, kf, xb, nu, rs, vt, vn, va, ve, xo, xt, xp, xl, xd, xm, xz, xu, xe, xc, xf) (nI t) x) :=
  Exists.intro (P t + 1) (xn_2 hA ht (P t) 0 _ (by omega) (by omega) hp)
theorem yn_2 (hA : sc_A D B P I kk kb kp ki) {post : Int32 → Prop} {t : Nat} {x : Int32} (ht : t < 20) : ∀ m k n : Nat, k + m = P t → m < n → post (sc_fd kn x (5 * t) m k) → (wY_find_2 post (nI t) x xT xL yW xC xG yV yD yR yA yF yO kk kb kp kf kn ki ka kg kh yb yw nu rs yt ys yc yl yn yv yo ym yf tv tt tg yp yh n (nI k)) := by
  intro m
  have h5 := sc_p5 hA t
  induction m with
  | zero =>
    intro k n hk hn hp
    obtain ⟨n, rfl⟩ : ∃ n', n = n' + 1 := ⟨n - 1, by omega⟩
    refine And.intro (vp_in_nI ht (by decide)) (br_t ?_ hp)
    rw [nI_clamp (by omega), sc_p hA]
    exact nI_le (by omega) (by omega)
  | succ m ih =>
    intro k n hk hn hp
    obtain ⟨n, rfl⟩ : ∃ n', n = n' + 1 := ⟨n - 1, by omega⟩
    refine And.intro (vp_in_nI ht (by decide)) (br_f ?_ ?_)
    · rw [nI_clamp (by omega), sc_p hA]
      exact nI_ge (by omega) (by omega)
    · rw [ba_5, nI_add, nI_clamp (by omega)]
      refine ⟨vp_in_nI (by omega) (by decide), ?_⟩
      by_cases e : kn (5 * t + k) = x
      · rw [sc_fd, if_pos e] at hp
        exact br_t e hp
      · rw [sc_fd, if_neg e] at hp
        exact br_f e (nm_r (nI_1 k) (ih (k + 1) n (by omega) (by omega) hp))
theorem yn_find (hA : sc_A D B P I kk kb kp ki) {post : Int32 → Prop} {t : Nat} {x : Int32} (ht : t < 20) (hp : post (sc_find P kn t x)) : (wpY_find post (xT, xL, yW, xC, xG, yV, yD, yR, yA, yF, yO, kk, kb, kp, kf, kn, ki, ka, kg, kh, yb, yw, nu, rs, yt, ys, yc, yl, yn, yv, yo, ym, yf, tv, tt, tg, yp, yh) (nI t) x) :=
  Exists.intro (P t + 1) (yn_2 hA ht (P t) 0 _ (by omega) (by omega) hp)
/-! which types suit -/
def sc_su (D B : Nat → Nat) (w r : Nat) : Bool := decide ((D w = D r ∧ (D w = 6 → B w = B r)) ∨ (D w = 2 ∧ D r = 3))
theorem sc_su_t {w r : Nat} : sc_su D B w r = true ↔ ((D w = D r ∧ (D w = 6 → B w = B r)) ∨ (D w = 2 ∧ D r = 3)) := decide_eq_true_iff
theorem sc_su_f {w r : Nat} : sc_su D B w r = false ↔ ¬ ((D w = D r ∧ (D w = 6 → B w = B r)) ∨ (D w = 2 ∧ D r = 3)) := decide_eq_false_iff_not
theorem xs_suits (hA : sc_A D B P I kk kb kp ki) {post : Int32 → Prop} {w r : Nat} (hw : w < 20) (hr : r < 20) (h1 : sc_su D B w r = true → post 1) (h0 : sc_su D B w r = false → post 0) : (wpX_suits post (xT, xL, xC, xG, xV, xA, xF, xD, xN, xS, xK, xI, kk, kb, kp, kn, ki, ka, kh, kd, kf, xb, nu, rs, vt, vn, va, ve, xo, xt, xp, xl, xd, xm, xz, xu, xe, xc, xf) (nI w) (nI r)) := by
  have dw := sc_k9 hA w
  have dr := sc_k9 hA r
  have bw := sc_b20 hA w
  have br := sc_b20 hA r
  simp (disch := omega) only [wpX_suits, vp_in_nI, nI_clamp, sc_k hA, sc_b hA, nI_eq, ba_e6, ba_e2, ba_e3, true_and]
  rw [sc_su_t] at h1
  rw [sc_su_f] at h0
  refine br_c (fun a => br_c (fun b => br_c (fun c => h1 ?_) (fun c => h0 ?_)) (fun b => h1 ?_)) (fun a => br_c (fun b => br_c (fun c => h1 ?_) (fun c => h0 ?_)) (fun b => h0 ?_)) <;> omega
theorem ys_suits (hA : sc_A D B P I kk kb kp ki) {post : Int32 → Prop} {w r : Nat} (hw : w < 20) (hr : r < 20) (h1 : sc_su D B w r = true → post 1) (h0 : sc_su D B w r = false → post 0) : (wpY_suits post (xT, xL, yW, xC, xG, yV, yD, yR, yA, yF, yO, kk, kb, kp, kf, kn, ki, ka, kg, kh, yb, yw, nu, rs, yt, ys, yc, yl, yn, yv, yo, ym, yf, tv, tt, tg, yp, yh) (nI w) (nI r)) := by
  have dw := sc_k9 hA w
  have dr := sc_k9 hA r
  have bw := sc_b20 hA w
  have br := sc_b20 hA r
  simp (disch := omega) only [wpY_suits, wY_suits_41, vp_in_nI, nI_clamp, sc_k hA, sc_b hA, nI_eq, ba_e6, ba_e2, ba_e3, true_and]
  rw [sc_su_t] at h1
  rw [sc_su_f] at h0
  refine br_c (fun a => br_c (fun b => br_c (fun c => h1 ?_) (fun c => br_c (fun b => br_c (fun c => h1 ?_) (fun c => h0 ?_)) (fun b => h0 ?_))) (fun b => h1 ?_)) (fun a => br_c (fun b => br_c (fun c => h1 ?_) (fun c => h0 ?_)) (fun b => h0 ?_)) <;> omega
/-! the first branch that suits -/
def sc_bd (D B I : Nat → Nat) (w b : Nat) : Nat → Nat → Int32
  | 0, _ => -1
  | m + 1, k => if sc_su D B w (I (b + k)) = true then nI k else sc_bd D B I w b m (k + 1)
def sc_bf (D B P I : Nat → Nat) (w r : Nat) : Int32 := sc_bd D B I w (5 * r) (P r) 0
theorem sc_bd_r (w b : Nat) : ∀ m k : Nat, k + m ≤ 5 → (sc_bd D B I w b m k = -1 ∧ ∀ j, k ≤ j → j < k + m → sc_su D B w (I (b + j)) = false) ∨ (∃ f, k ≤ f ∧ f < k + m ∧ sc_bd D B I w b m k = nI f ∧ sc_su D B w (I (b + f)) = true) := by
  intro m
  induction m with
  | zero => exact fun k _ => Or.inl ⟨rfl, fun j h1 h2 => by omega⟩
  | succ m ih =>
    intro k hk
    by_cases e : sc_su D B w (I (b + k)) = true
    · exact Or.inr ⟨k, by omega, by omega, if_pos e, e⟩
    · have ee : sc_bd D B I w b (m + 1) k = sc_bd D B I w b m (k + 1) := if_neg e
      rw [ee]
      rcases ih (k + 1) (by omega) with ⟨h1, h2⟩ | ⟨f, h1, h2, h3, h4⟩
      · refine Or.inl ⟨h1, fun j a b' => ?_⟩
        by_cases z : j = k
        · rw [z]; exact Bool.eq_false_iff.mpr e
        · exact h2 j (by omega) (by omega)
      · exact Or.inr ⟨f, by omega, by omega, h3, h4⟩
theorem sc_bf_r {w r : Nat} (h5 : P r ≤ 5) : (sc_bf D B P I w r = -1 ∧ ∀ j, j < P r → sc_su D B w (I (5 * r + j)) = false) ∨ (∃ f, f < P r ∧ sc_bf D B P I w r = nI f ∧ sc_su D B w (I (5 * r + f)) = true) := by
  rcases sc_bd_r (D := D) (B := B) (I := I) w (5 * r) (P r) 0 (by omega) with ⟨h1, h2⟩ | ⟨f, h1, h2, h3, h4⟩
  · exact Or.inl ⟨h1, fun j hj => h2 j (by omega) (by omega)⟩
  · exact Or.inr ⟨f, by omega, h3, h4⟩
theorem xs_bd (hA : sc_A D B P I kk kb kp ki) {post : Int32 → Prop} {w r : Nat} (hw : w < 20) (hr : r < 20) : ∀ m k n : Nat, k + m = P r → m < n → post (sc_bd D B I w (5 * r) m k) → (wX_branchFor_2 post (nI w) (nI r) xT xL xC xG xV xA xF xD xN xS xK xI kk kb kp kn ki ka kh kd kf xb nu rs vt vn va ve xo xt xp xl xd xm xz xu xe xc xf n (nI k)) := by
  intro m
  have h5 := sc_p5 hA r
  induction m with
  | zero =>
    intro k n hk hn hp
    obtain ⟨n, rfl⟩ : ∃ n', n = n' + 1 := ⟨n - 1, by omega⟩
    refine And.intro (vp_in_nI hr (by decide)) (br_t ?_ hp)
    rw [nI_clamp (by omega), sc_p hA]
    exact nI_le (by omega) (by omega)
  | succ m ih =>
    intro k n hk hn hp
    obtain ⟨n, rfl⟩ : ∃ n', n = n' + 1 := ⟨n - 1, by omega⟩
    refine And.intro (vp_in_nI hr (by decide)) (br_f ?_ ?_)
    · rw [nI_clamp (by omega), sc_p hA]
      exact nI_ge (by omega) (by omega)
    · rw [ba_5, nI_add, nI_clamp (by omega), sc_i hA]
      refine ⟨vp_in_nI (by omega) (by decide), ?_⟩
      refine xs_suits hA hw (sc_i20 hA _) (fun e => br_f (by decide) ?_) (fun e => br_t rfl ?_)
      · rw [sc_bd, if_pos e] at hp
        exact hp
      · rw [sc_bd, if_neg (by rw [e]; decide)] at hp
        exact nm_r (nI_1 k) (ih (k + 1) n (by omega) (by omega) hp)
theorem xs_bf (hA : sc_A D B P I kk kb kp ki) {post : Int32 → Prop} {w r : Nat} (hw : w < 20) (hr : r < 20) (hp : post (sc_bf D B P I w r)) : (wpX_branchFor post (xT, xL, xC, xG, xV, xA, xF, xD, xN, xS, xK, xI, kk, kb, kp, kn, ki, ka, kh, kd, kf, xb, nu, rs, vt, vn, va, ve, xo, xt, xp, xl, xd, xm, xz, xu, xe, xc, xf) (nI w) (nI r)) :=
  Exists.intro (P r + 1) (xs_bd hA hw hr (P r) 0 _ (by omega) (by omega) hp)
theorem ys_bd (hA : sc_A D B P I kk kb kp ki) {post : Int32 → Prop} {w r : Nat} (hw : w < 20) (hr : r < 20) : ∀ m k n : Nat, k + m = P r → m < n → post (sc_bd D B I w (5 * r) m k) → (wY_branchFor_2 post (nI w) (nI r) xT xL yW xC xG yV yD yR yA yF yO kk kb kp kf kn ki ka kg kh yb yw nu rs yt ys yc yl yn yv yo ym yf tv tt tg yp yh n (nI k)) := by
  intro m
  have h5 := sc_p5 hA r
  induction m with
  | zero =>
    intro k n hk hn hp
    obtain ⟨n, rfl⟩ : ∃ n', n = n' + 1 := ⟨n - 1, by omega⟩
    refine And.intro (vp_in_nI hr (by decide)) (br_t ?_ hp)
    rw [nI_clamp (by omega), sc_p hA]
    exact nI_le (by omega) (by omega)
  | succ m ih =>
    intro k n hk hn hp
    obtain ⟨n, rfl⟩ : ∃ n', n = n' + 1 := ⟨n - 1, by omega⟩
    refine And.intro (vp_in_nI hr (by decide)) (br_f ?_ ?_)
    · rw [nI_clamp (by omega), sc_p hA]
      exact nI_ge (by omega) (by omega)
    · rw [ba_5, nI_add, nI_clamp (by omega), sc_i hA]
      refine ⟨vp_in_nI (by omega) (by decide), ?_⟩
      refine ys_suits hA hw (sc_i20 hA _) (fun e => br_f (by decide) ?_) (fun e => br_t rfl ?_)
      · rw [sc_bd, if_pos e] at hp
        exact hp
      · rw [sc_bd, if_neg (by rw [e]; decide)] at hp
        exact nm_r (nI_1 k) (ih (k + 1) n (by omega) (by omega) hp)
theorem ys_bf (hA : sc_A D B P I kk kb kp ki) {post : Int32 → Prop} {w r : Nat} (hw : w < 20) (hr : r < 20) (hp : post (sc_bf D B P I w r)) : (wpY_branchFor post (xT, xL, yW, xC, xG, yV, yD, yR, yA, yF, yO, kk, kb, kp, kf, kn, ki, ka, kg, kh, yb, yw, nu, rs, yt, ys, yc, yl, yn, yv, yo, ym, yf, tv, tt, tg, yp, yh) (nI w) (nI r)) :=
  Exists.intro (P r + 1) (ys_bd hA hw hr (P r) 0 _ (by omega) (by omega) hp)
end
end
section
section
variable {xT xL xC xG xV xA xF xD xN xS xK xI yW yV yD yR yA yF yO : Int32} {kk kb kp kn ki ka kh kd kf xb vt va ve xo xt xp xl xd xm xz xu xe xc xf kg yb yw yt ys yc yl yn yo ym yf tv tt tg yp yh : Nat → Int32} {nu rs vn yv : Nat → Int64}
variable {D B P I : Nat → Nat} {T L N d p : Nat}
/-! leaves of X -/
theorem xf_isType_y {post : Int32 → Prop} {t : Nat} (hT : T ≤ 20) (h : t < T) (k : post 1) : (wpX_isType post (nI T, xL, xC, xG, xV, xA, xF, xD, xN, xS, xK, xI, kk, kb, kp, kn, ki, ka, kh, kd, kf, xb, nu, rs, vt, vn, va, ve, xo, xt, xp, xl, xd, xm, xz, xu, xe, xc, xf) (nI t)) :=
  br_f (nI_pos (by omega)) (br_f (nI_ge h (by omega)) k)
theorem xf_isType_n {post : Int32 → Prop} {x : Int32} (h : x < 0 ∨ nI T ≤ x) (k : post 0) : (wpX_isType post (nI T, xL, xC, xG, xV, xA, xF, xD, xN, xS, xK, xI, kk, kb, kp, kn, ki, ka, kh, kd, kf, xb, nu, rs, vt, vn, va, ve, xo, xt, xp, xl, xd, xm, xz, xu, xe, xc, xf) x) := by
  by_cases z : x < 0
  · exact br_t z k
  · exact br_f z (br_t (h.resolve_left z) k)
theorem xf_fail {post : SX → Prop} {f : Int32} (k : post (xT, xL, xC, xG, xV, xA, f, xD, xN, xS, xK, xI, kk, kb, kp, kn, ki, ka, kh, kd, kf, xb, nu, rs, vt, vn, va, ve, xo, xt, xp, xl, xd, xm, xz, xu, xe, xc, xf)) : (wpX_fail post (xT, xL, xC, xG, xV, xA, 0, xD, xN, xS, xK, xI, kk, kb, kp, kn, ki, ka, kh, kd, kf, xb, nu, rs, vt, vn, va, ve, xo, xt, xp, xl, xd, xm, xz, xu, xe, xc, xf) f) := br_t rfl k
theorem xf_fail' {post : SX → Prop} {f : Int32} (h : ¬ xF = 0) (k : post (xT, xL, xC, xG, xV, xA, xF, xD, xN, xS, xK, xI, kk, kb, kp, kn, ki, ka, kh, kd, kf, xb, nu, rs, vt, vn, va, ve, xo, xt, xp, xl, xd, xm, xz, xu, xe, xc, xf)) : (wpX_fail post (xT, xL, xC, xG, xV, xA, xF, xD, xN, xS, xK, xI, kk, kb, kp, kn, ki, ka, kh, kd, kf, xb, nu, rs, vt, vn, va, ve, xo, xt, xp, xl, xd, xm, xz, xu, xe, xc, xf) f) := br_f h k
theorem xf_nb_s {post : Int32 → SX → Prop} (k : post 0 (xT, nI L, xC, xG, xV, nI L, -2, xD, xN, xS, xK, xI, kk, kb, kp, kn, ki, ka, kh, kd, kf, xb, nu, rs, vt, vn, va, ve, xo, xt, xp, xl, xd, xm, xz, xu, xe, xc, xf)) : (wpX_nextByte post (xT, nI L, xC, xG, xV, nI L, 0, xD, xN, xS, xK, xI, kk, kb, kp, kn, ki, ka, kh, kd, kf, xb, nu, rs, vt, vn, va, ve, xo, xt, xp, xl, xd, xm, xz, xu, xe, xc, xf)) :=
  br_t rfl (xf_fail k)
theorem xf_nb {post : Int32 → SX → Prop} {b : Nat} (hp : p < L) (hL : L ≤ 100) (hb : xb p &&& 255 = nI b) (k : post (nI b) (xT, nI L, xC, xG, xV, nI (p + 1), xF, xD, xN, xS, xK, xI, kk, kb, kp, kn, ki, ka, kh, kd, kf, xb, nu, rs, vt, vn, va, ve, xo, xt, xp, xl, xd, xm, xz, xu, xe, xc, xf)) : (wpX_nextByte post (xT, nI L, xC, xG, xV, nI p, xF, xD, xN, xS, xK, xI, kk, kb, kp, kn, ki, ka, kh, kd, kf, xb, nu, rs, vt, vn, va, ve, xo, xt, xp, xl, xd, xm, xz, xu, xe, xc, xf)) := by
  refine br_f (fun e => ?_) (nm_r (nI_1 p) ⟨vp_in_nI (by omega) (by decide), ?_⟩)
  · have := ba_inj e (by omega) (by omega); omega
  · rw [nI_clamp (by omega), hb]; exact k
theorem xf_wi {post : Int64 → SX → Prop} {v a b : Int64} (h1 : ¬ v < a) (h2 : v ≤ b) (k : post v (xT, xL, xC, xG, xV, xA, xF, xD, xN, xS, xK, xI, kk, kb, kp, kn, ki, ka, kh, kd, kf, xb, nu, rs, vt, vn, va, ve, xo, xt, xp, xl, xd, xm, xz, xu, xe, xc, xf)) : (wpX_within post (xT, xL, xC, xG, xV, xA, xF, xD, xN, xS, xK, xI, kk, kb, kp, kn, ki, ka, kh, kd, kf, xb, nu, rs, vt, vn, va, ve, xo, xt, xp, xl, xd, xm, xz, xu, xe, xc, xf) v a b) := br_f h1 (br_t h2 k)
theorem xf_wi_b {post : Int64 → SX → Prop} {v a b : Int64} (h : v < a ∨ ¬ v ≤ b) (k : post v (xT, xL, xC, xG, xV, xA, -3, xD, xN, xS, xK, xI, kk, kb, kp, kn, ki, ka, kh, kd, kf, xb, nu, rs, vt, vn, va, ve, xo, xt, xp, xl, xd, xm, xz, xu, xe, xc, xf)) : (wpX_within post (xT, xL, xC, xG, xV, xA, 0, xD, xN, xS, xK, xI, kk, kb, kp, kn, ki, ka, kh, kd, kf, xb, nu, rs, vt, vn, va, ve, xo, xt, xp, xl, xd, xm, xz, xu, xe, xc, xf) v a b) := by
  by_cases z : v < a
  · exact br_t z (xf_fail k)
  · exact br_f z (br_f (h.resolve_left z) (xf_fail k))
theorem xf_skip {post : SX → Prop} {m : Nat} (hm : p + m ≤ L) (hL : L ≤ 100) (k : post (xT, nI L, xC, xG, xV, nI (p + m), xF, xD, xN, xS, xK, xI, kk, kb, kp, kn, ki, ka, kh, kd, kf, xb, nu, rs, vt, vn, va, ve, xo, xt, xp, xl, xd, xm, xz, xu, xe, xc, xf)) : (wpX_skip post (xT, nI L, xC, xG, xV, nI p, xF, xD, xN, xS, xK, xI, kk, kb, kp, kn, ki, ka, kh, kd, kf, xb, nu, rs, vt, vn, va, ve, xo, xt, xp, xl, xd, xm, xz, xu, xe, xc, xf) (nI m)) :=
  br_t (by rw [pk_sub (by omega)]; exact nI_le (by omega) (by omega)) (nm_r (nI_add p m) k)
theorem xf_skip_s {post : SX → Prop} {m : Nat} (hm : L < p + m) (hp : p ≤ L) (hL : L ≤ 100) (h20 : m ≤ 20) (k : post (xT, nI L, xC, xG, xV, nI p, -2, xD, xN, xS, xK, xI, kk, kb, kp, kn, ki, ka, kh, kd, kf, xb, nu, rs, vt, vn, va, ve, xo, xt, xp, xl, xd, xm, xz, xu, xe, xc, xf)) : (wpX_skip post (xT, nI L, xC, xG, xV, nI p, 0, xD, xN, xS, xK, xI, kk, kb, kp, kn, ki, ka, kh, kd, kf, xb, nu, rs, vt, vn, va, ve, xo, xt, xp, xl, xd, xm, xz, xu, xe, xc, xf) (nI m)) :=
  br_f (by rw [pk_sub (by omega)]; exact nI_ge (by omega) (by omega)) (xf_fail k)
theorem xf_opens' {post : SX → Prop} {a l : Int32} {t : Nat} (hd : d < 400) (hn : a.toInt16.toInt32 = a) (ht : t < 20) (k : post (xT, xL, xC, xG, xV, xA, xF, nI (d + 1), xN, xS, xK, xI, kk, kb, kp, kn, ki, ka, kh, kd, kf, xb, nu, rs, vt, vn, va, ve, upd xo d a, upd xt d (nI t), upd xp d 0, upd xl d (vp_nar .byte l.toInt8.toInt32), xd, xm, xz, xu, xe, xc, xf)) : (wpX_opens post (xT, xL, xC, xG, xV, xA, xF, nI d, xN, xS, xK, xI, kk, kb, kp, kn, ki, ka, kh, kd, kf, xb, nu, rs, vt, vn, va, ve, xo, xt, xp, xl, xd, xm, xz, xu, xe, xc, xf) a (nI t) l) := by
  have vd : vp_in (nI d) 400 := vp_in_nI hd (by decide)
  refine And.intro vd (nm_r (e' := upd xo d a) ?_ ⟨vd, nm_r (e' := upd xt d (nI t)) ?_ ⟨vd, nm_r (e' := upd xp d 0) ?_ (nm_r (nI_1 d) ⟨vd, nm_r (e' := upd xl d (vp_nar .byte l.toInt8.toInt32)) ?_ k⟩)⟩⟩)
  · rw [nI_clamp (by omega), pk_vs, hn]
  · rw [nI_clamp (by omega), pk_vb, ba_b (by omega)]
  · rw [nI_clamp (by omega), ba_vb0]
  · rw [nI_clamp (by omega)]
theorem xf_opens {post : SX → Prop} {a : Int32} {t l : Nat} (hd : d < 400) (hn : a.toInt16.toInt32 = a) (ht : t < 20) (hl : l < 128) (k : post (xT, xL, xC, xG, xV, xA, xF, nI (d + 1), xN, xS, xK, xI, kk, kb, kp, kn, ki, ka, kh, kd, kf, xb, nu, rs, vt, vn, va, ve, upd xo d a, upd xt d (nI t), upd xp d 0, upd xl d (nI l), xd, xm, xz, xu, xe, xc, xf)) : (wpX_opens post (xT, xL, xC, xG, xV, xA, xF, nI d, xN, xS, xK, xI, kk, kb, kp, kn, ki, ka, kh, kd, kf, xb, nu, rs, vt, vn, va, ve, xo, xt, xp, xl, xd, xm, xz, xu, xe, xc, xf) a (nI t) (nI l)) :=
  xf_opens' hd hn ht (by rw [pk_vb, ba_b hl]; exact k)
theorem xf_close9 {post : SX → Prop} {n t : Nat} (hA : sc_A D B P I kk kb kp ki) (hn : n < 400) (hd : 0 < d) (hN : N ≤ 400) (hv : vt n = nI t) (ht : t < 20) (h9 : D t = 9) (k : post (xT, xL, xC, xG, nI N, xA, xF, nI (d - 1), xN - 1, xS, xK, xI, kk, kb, kp, kn, ki, ka, kh, kd, kf, xb, nu, rs, vt, vn, va, upd ve n (nI N), xo, xt, xp, xl, xd, xm, xz, xu, xe, xc, xf)) : (wpX_close post (xT, xL, xC, xG, nI N, xA, xF, nI d, xN, xS, xK, xI, kk, kb, kp, kn, ki, ka, kh, kd, kf, xb, nu, rs, vt, vn, va, ve, xo, xt, xp, xl, xd, xm, xz, xu, xe, xc, xf) (nI n)) := by
  refine nm_r (ba_s1 hd) (And.intro (vp_in_nI hn (by decide)) ?_)
  rw [nI_clamp (by omega), hv, nI_clamp (by omega), sc_k hA, h9]
  refine ⟨vp_in_nI ht (by decide), br_t rfl (nm_e (And.intro (vp_in_nI hn (by decide)) (nm_r (e' := upd ve n (nI N)) ?_ k)))⟩
  rw [nI_clamp (by omega), pk_vs, ba_s (by omega)]
theorem xf_close {post : SX → Prop} {n t : Nat} (hA : sc_A D B P I kk kb kp ki) (hn : n < 400) (hd : 0 < d) (hN : N ≤ 400) (hv : vt n = nI t) (ht : t < 20) (h9 : ¬ D t = 9) (k : post (xT, xL, xC, xG, nI N, xA, xF, nI (d - 1), xN, xS, xK, xI, kk, kb, kp, kn, ki, ka, kh, kd, kf, xb, nu, rs, vt, vn, va, upd ve n (nI N), xo, xt, xp, xl, xd, xm, xz, xu, xe, xc, xf)) : (wpX_close post (xT, xL, xC, xG, nI N, xA, xF, nI d, xN, xS, xK, xI, kk, kb, kp, kn, ki, ka, kh, kd, kf, xb, nu, rs, vt, vn, va, ve, xo, xt, xp, xl, xd, xm, xz, xu, xe, xc, xf) (nI n)) := by
  refine nm_r (ba_s1 hd) (And.intro (vp_in_nI hn (by decide)) ?_)
  rw [nI_clamp (by omega), hv, nI_clamp (by omega), sc_k hA]
  have h10 := sc_k9 hA t
  refine ⟨vp_in_nI ht (by decide), br_f (fun e => h9 ((ba_e9 (by omega)).mp e)) (And.intro (vp_in_nI hn (by decide)) (nm_r (e' := upd ve n (nI N)) ?_ k))⟩
  rw [nI_clamp (by omega), pk_vs, ba_s (by omega)]
theorem xf_give {post : SX → Prop} {g : Nat} {v : Int64} (hg : g < 150) (k : post (xT, xL, xC, nI (g + 1), xV, xA, xF, xD, xN, xS, xK, xI, kk, kb, kp, kn, ki, ka, kh, kd, kf, xb, nu, vp_updL rs g v, vt, vn, va, ve, xo, xt, xp, xl, xd, xm, xz, xu, xe, xc, xf)) : (wpX_give post (xT, xL, xC, nI g, xV, xA, xF, xD, xN, xS, xK, xI, kk, kb, kp, kn, ki, ka, kh, kd, kf, xb, nu, rs, vt, vn, va, ve, xo, xt, xp, xl, xd, xm, xz, xu, xe, xc, xf) v) := by
  refine br_f (fun e => ?_) (nm_r (nI_1 g) ⟨vp_in_nI hg (by decide), nm_r (e' := vp_updL rs g v) ?_ k⟩)
  · have := (ba_e150 (by omega)).mp e; omega
  · rw [nI_clamp (by omega)]
theorem xf_give_f {post : SX → Prop} {v : Int64} (k : post (xT, xL, xC, 150, xV, xA, -7, xD, xN, xS, xK, xI, kk, kb, kp, kn, ki, ka, kh, kd, kf, xb, nu, rs, vt, vn, va, ve, xo, xt, xp, xl, xd, xm, xz, xu, xe, xc, xf)) : (wpX_give post (xT, xL, xC, 150, xV, xA, 0, xD, xN, xS, xK, xI, kk, kb, kp, kn, ki, ka, kh, kd, kf, xb, nu, rs, vt, vn, va, ve, xo, xt, xp, xl, xd, xm, xz, xu, xe, xc, xf) v) := br_t rfl (xf_fail k)
theorem xf_give_n {post : SX → Prop} {v : Int64} (h : ¬ xF = 0) (k : post (xT, xL, xC, 150, xV, xA, xF, xD, xN, xS, xK, xI, kk, kb, kp, kn, ki, ka, kh, kd, kf, xb, nu, rs, vt, vn, va, ve, xo, xt, xp, xl, xd, xm, xz, xu, xe, xc, xf)) : (wpX_give post (xT, xL, xC, 150, xV, xA, xF, xD, xN, xS, xK, xI, kk, kb, kp, kn, ki, ka, kh, kd, kf, xb, nu, rs, vt, vn, va, ve, xo, xt, xp, xl, xd, xm, xz, xu, xe, xc, xf) v) := br_t rfl (xf_fail' h k)
theorem xf_enter_d {post : SX → Prop} {a b : Int32} (k : post (xT, xL, xC, xG, xV, xA, -5, xD, 10, xS, xK, xI, kk, kb, kp, kn, ki, ka, kh, kd, kf, xb, nu, rs, vt, vn, va, ve, xo, xt, xp, xl, xd, xm, xz, xu, xe, xc, xf)) : (wpX_enter post (xT, xL, xC, xG, xV, xA, 0, xD, 10, xS, xK, xI, kk, kb, kp, kn, ki, ka, kh, kd, kf, xb, nu, rs, vt, vn, va, ve, xo, xt, xp, xl, xd, xm, xz, xu, xe, xc, xf) a b) := br_t rfl (xf_fail k)
theorem xf_enter {post : SX → Prop} {a : Int32} {t : Nat} (h : ¬ xN = 10) (hd : d < 400) (hn : a.toInt16.toInt32 = a) (ht : t < 20) (k : post (xT, xL, xC, xG, xV, xA, xF, nI (d + 1), xN + 1, xS, xK, xI, kk, kb, kp, kn, ki, ka, kh, kd, kf, xb, nu, rs, vt, vn, va, ve, upd xo d a, upd xt d (nI t), upd xp d 0, upd xl d 0, xd, xm, xz, xu, xe, xc, xf)) : (wpX_enter post (xT, xL, xC, xG, xV, xA, xF, nI d, xN, xS, xK, xI, kk, kb, kp, kn, ki, ka, kh, kd, kf, xb, nu, rs, vt, vn, va, ve, xo, xt, xp, xl, xd, xm, xz, xu, xe, xc, xf) a (nI t)) :=
  br_f h (nm_e (xf_opens (l := 0) hd hn ht (by omega) k))
theorem xf_nn_s {post : Int64 → SX → Prop} (k : post 0 (xT, xL, xC, xG, xV, xC, -2, xD, xN, xS, xK, xI, kk, kb, kp, kn, ki, ka, kh, kd, kf, xb, nu, rs, vt, vn, va, ve, xo, xt, xp, xl, xd, xm, xz, xu, xe, xc, xf)) : (wpX_nextNumber post (xT, xL, xC, xG, xV, xC, 0, xD, xN, xS, xK, xI, kk, kb, kp, kn, ki, ka, kh, kd, kf, xb, nu, rs, vt, vn, va, ve, xo, xt, xp, xl, xd, xm, xz, xu, xe, xc, xf)) := br_t rfl (xf_fail k)
theorem xf_nn {post : Int64 → SX → Prop} {C : Nat} (hp : p < C) (hC : C ≤ 100) (k : post (nu p) (xT, xL, nI C, xG, xV, nI (p + 1), xF, xD, xN, xS, xK, xI, kk, kb, kp, kn, ki, ka, kh, kd, kf, xb, nu, rs, vt, vn, va, ve, xo, xt, xp, xl, xd, xm, xz, xu, xe, xc, xf)) : (wpX_nextNumber post (xT, xL, nI C, xG, xV, nI p, xF, xD, xN, xS, xK, xI, kk, kb, kp, kn, ki, ka, kh, kd, kf, xb, nu, rs, vt, vn, va, ve, xo, xt, xp, xl, xd, xm, xz, xu, xe, xc, xf)) := by
  refine br_f (fun e => ?_) (nm_r (nI_1 p) ⟨vp_in_nI (by omega) (by decide), ?_⟩)
  · have := ba_inj e (by omega) (by omega); omega
  · rw [nI_clamp (by omega)]; exact k
theorem xf_put {post : SX → Prop} {z : Nat} {b : Int32} (hz : z < 100) (k : post (xT, xL, xC, xG, xV, xA, 0, xD, xN, nI (z + 1), xK, xI, kk, kb, kp, kn, ki, ka, kh, kd, kf, xb, nu, rs, vt, vn, va, ve, xo, xt, xp, xl, xd, upd xm z b.toInt8.toInt32, xz, xu, xe, xc, xf)) : (wpX_put post (xT, xL, xC, xG, xV, xA, 0, xD, xN, nI z, xK, xI, kk, kb, kp, kn, ki, ka, kh, kd, kf, xb, nu, rs, vt, vn, va, ve, xo, xt, xp, xl, xd, xm, xz, xu, xe, xc, xf) b) := by
  refine br_t rfl (br_f (fun e => ?_) (nm_r (nI_1 z) ⟨vp_in_nI hz (by decide), nm_r (e' := upd xm z b.toInt8.toInt32) ?_ k⟩))
  · have := (ba_e100 (by omega)).mp e; omega
  · rw [nI_clamp (by omega), pk_vb]
theorem xf_put_f {post : SX → Prop} {b : Int32} (k : post (xT, xL, xC, xG, xV, xA, -7, xD, xN, 100, xK, xI, kk, kb, kp, kn, ki, ka, kh, kd, kf, xb, nu, rs, vt, vn, va, ve, xo, xt, xp, xl, xd, xm, xz, xu, xe, xc, xf)) : (wpX_put post (xT, xL, xC, xG, xV, xA, 0, xD, xN, 100, xK, xI, kk, kb, kp, kn, ki, ka, kh, kd, kf, xb, nu, rs, vt, vn, va, ve, xo, xt, xp, xl, xd, xm, xz, xu, xe, xc, xf) b) := br_t rfl (br_t rfl (xf_fail k))
theorem xf_put_n {post : SX → Prop} {b : Int32} (h : ¬ xF = 0) (k : post (xT, xL, xC, xG, xV, xA, xF, xD, xN, xS, xK, xI, kk, kb, kp, kn, ki, ka, kh, kd, kf, xb, nu, rs, vt, vn, va, ve, xo, xt, xp, xl, xd, xm, xz, xu, xe, xc, xf)) : (wpX_put post (xT, xL, xC, xG, xV, xA, xF, xD, xN, xS, xK, xI, kk, kb, kp, kn, ki, ka, kh, kd, kf, xb, nu, rs, vt, vn, va, ve, xo, xt, xp, xl, xd, xm, xz, xu, xe, xc, xf) b) := br_f h k
/-! leaves of Y -/
theorem yf_in_y {post : Int32 → Prop} {x a b : Int32} (h1 : a ≤ x) (h2 : x ≤ b) (k : post 1) : wpY_in post x a b :=
  br_f (Int32.not_lt.mpr h1) (br_f (Int32.not_lt.mpr h2) k)
theorem yf_in_n {post : Int32 → Prop} {x a b : Int32} (h : x < a ∨ b < x) (k : post 0) : wpY_in post x a b := by
  by_cases z : x < a
  · exact br_t z k
  · exact br_f z (br_t (h.resolve_left z) k)
theorem yf_isT_y {post : Int32 → Prop} {t : Nat} (hT : T ≤ 20) (h : t < T) (k : post 1) : wpY_in post (nI t) 0 (nI T - 1) :=
  yf_in_y (nI_pos' (by omega)) (by rw [ba_s1 (by omega)]; exact nI_le (by omega) (by omega)) k
theorem yf_isT_n {post : Int32 → Prop} {x : Int32} (hT : T ≤ 20) (h : x < 0 ∨ nI T ≤ x) (k : post 0) : wpY_in post x 0 (nI T - 1) := by
  refine yf_in_n ?_ k
  rcases h with h | h
  · exact Or.inl h
  · by_cases z : T = 0
    · subst z
      refine Or.inr ?_
      rw [Int32.lt_iff_toInt_lt]
      rw [Int32.le_iff_toInt_le] at h
      have h0 : (nI 0).toInt = 0 := by decide
      have h1 : (nI 0 - 1).toInt = -1 := by decide
      omega
    · refine Or.inr ?_
      rw [ba_s1 (by omega), Int32.lt_iff_toInt_lt, nI_toInt (by omega)]
      rw [Int32.le_iff_toInt_le, nI_toInt (by omega)] at h
      omega
theorem yf_take_s {post : Int32 → SY → Prop} (k : post 0 (xT, nI L, yW, xC, xG, yV, yD, yR, nI L, -2, yO, kk, kb, kp, kf, kn, ki, ka, kg, kh, yb, yw, nu, rs, yt, ys, yc, yl, yn, yv, yo, ym, yf, tv, tt, tg, yp, yh)) : (wpY_take post (xT, nI L, yW, xC, xG, yV, yD, yR, nI L, 0, yO, kk, kb, kp, kf, kn, ki, ka, kg, kh, yb, yw, nu, rs, yt, ys, yc, yl, yn, yv, yo, ym, yf, tv, tt, tg, yp, yh)) :=
  br_t rfl (br_t rfl (br_f (by decide) k))
theorem yf_take {post : Int32 → SY → Prop} {b : Nat} (hp : p < L) (hL : L ≤ 100) (hb : yb p = nI b) (k : post (nI b) (xT, nI L, yW, xC, xG, yV, yD, yR, nI (p + 1), 0, yO, kk, kb, kp, kf, kn, ki, ka, kg, kh, yb, yw, nu, rs, yt, ys, yc, yl, yn, yv, yo, ym, yf, tv, tt, tg, yp, yh)) : (wpY_take post (xT, nI L, yW, xC, xG, yV, yD, yR, nI p, 0, yO, kk, kb, kp, kf, kn, ki, ka, kg, kh, yb, yw, nu, rs, yt, ys, yc, yl, yn, yv, yo, ym, yf, tv, tt, tg, yp, yh)) := by
  refine br_t rfl (br_f (fun e => ?_) (br_t rfl (nm_r (nI_1 p) ?_)))
  · have := ba_inj e (by omega) (by omega); omega
  · rw [nI_pred, nI_clamp (by omega), hb]
    exact ⟨vp_in_nI (by omega) (by decide), k⟩
theorem yf_out {post : SY → Prop} {g : Nat} {v : Int64} (hg : g < 150) (k : post (xT, xL, yW, xC, nI (g + 1), yV, yD, yR, yA, 0, yO, kk, kb, kp, kf, kn, ki, ka, kg, kh, yb, yw, nu, vp_updL rs g v, yt, ys, yc, yl, yn, yv, yo, ym, yf, tv, tt, tg, yp, yh)) : (wpY_out post (xT, xL, yW, xC, nI g, yV, yD, yR, yA, 0, yO, kk, kb, kp, kf, kn, ki, ka, kg, kh, yb, yw, nu, rs, yt, ys, yc, yl, yn, yv, yo, ym, yf, tv, tt, tg, yp, yh) v) := by
  refine br_t rfl (br_f (fun e => ?_) (br_t rfl ⟨vp_in_nI hg (by decide), nm_r (e' := vp_updL rs g v) ?_ (nm_r (nI_1 g) k)⟩))
  · have := (ba_e150 (by omega)).mp e; omega
  · rw [nI_clamp (by omega)]
theorem yf_out_f {post : SY → Prop} {v : Int64} (k : post (xT, xL, yW, xC, 150, yV, yD, yR, yA, -7, yO, kk, kb, kp, kf, kn, ki, ka, kg, kh, yb, yw, nu, rs, yt, ys, yc, yl, yn, yv, yo, ym, yf, tv, tt, tg, yp, yh)) : (wpY_out post (xT, xL, yW, xC, 150, yV, yD, yR, yA, 0, yO, kk, kb, kp, kf, kn, ki, ka, kg, kh, yb, yw, nu, rs, yt, ys, yc, yl, yn, yv, yo, ym, yf, tv, tt, tg, yp, yh) v) := br_t rfl (br_t rfl (br_f (by decide) k))
theorem yf_out_n {post : SY → Prop} {v : Int64} (h : ¬ yF = 0) (k : post (xT, xL, yW, xC, xG, yV, yD, yR, yA, yF, yO, kk, kb, kp, kf, kn, ki, ka, kg, kh, yb, yw, nu, rs, yt, ys, yc, yl, yn, yv, yo, ym, yf, tv, tt, tg, yp, yh)) : (wpY_out post (xT, xL, yW, xC, xG, yV, yD, yR, yA, yF, yO, kk, kb, kp, kf, kn, ki, ka, kg, kh, yb, yw, nu, rs, yt, ys, yc, yl, yn, yv, yo, ym, yf, tv, tt, tg, yp, yh) v) := br_f h (br_f h k)
theorem yf_later {post : SY → Prop} {o : Nat} {a b c : Int32} (ho : o < 2000) (k : post (xT, xL, yW, xC, xG, yV, yD, yR, yA, yF, nI (o + 1), kk, kb, kp, kf, kn, ki, ka, kg, kh, yb, yw, nu, rs, yt, ys, yc, yl, yn, yv, yo, ym, yf, upd tv o a, upd tt o b, upd tg o c, yp, yh)) : (wpY_later post (xT, xL, yW, xC, xG, yV, yD, yR, yA, yF, nI o, kk, kb, kp, kf, kn, ki, ka, kg, kh, yb, yw, nu, rs, yt, ys, yc, yl, yn, yv, yo, ym, yf, tv, tt, tg, yp, yh) a b c) := by
  have vd : vp_in (nI o) 2000 := vp_in_nI ho (by decide)
  refine And.intro vd (nm_r (e' := upd tv o a) ?_ ⟨vd, nm_r (e' := upd tt o b) ?_ ⟨vd, nm_r (e' := upd tg o c) ?_ (nm_r (nI_1 o) k)⟩⟩)
  · rw [nI_clamp (by omega)]
  · rw [nI_clamp (by omega)]
  · rw [nI_clamp (by omega)]
theorem yf_enter {post : SY → Prop} {o : Nat} (ho : o < 2000) (h : ¬ (yF = 0 ∧ yR = 10)) (k : post (xT, xL, yW, xC, xG, yV, yD, yR + 1, yA, yF, nI (o + 1), kk, kb, kp, kf, kn, ki, ka, kg, kh, yb, yw, nu, rs, yt, ys, yc, yl, yn, yv, yo, ym, yf, upd tv o (-2), upd tt o 0, upd tg o 0, yp, yh)) : (wpY_enter post (xT, xL, yW, xC, xG, yV, yD, yR, yA, yF, nI o, kk, kb, kp, kf, kn, ki, ka, kg, kh, yb, yw, nu, rs, yt, ys, yc, yl, yn, yv, yo, ym, yf, tv, tt, tg, yp, yh)) := by
  by_cases z : yF = 0
  · exact br_t z (br_f (fun e => h ⟨z, e⟩) (nm_e (yf_later ho k)))
  · exact br_f z (nm_e (yf_later ho k))
theorem yf_enter_d {post : SY → Prop} {o : Nat} (ho : o < 2000) (k : post (xT, xL, yW, xC, xG, yV, yD, (10 : Int32) + 1, yA, -5, nI (o + 1), kk, kb, kp, kf, kn, ki, ka, kg, kh, yb, yw, nu, rs, yt, ys, yc, yl, yn, yv, yo, ym, yf, upd tv o (-2), upd tt o 0, upd tg o 0, yp, yh)) : (wpY_enter post (xT, xL, yW, xC, xG, yV, yD, 10, yA, 0, nI o, kk, kb, kp, kf, kn, ki, ka, kg, kh, yb, yw, nu, rs, yt, ys, yc, yl, yn, yv, yo, ym, yf, tv, tt, tg, yp, yh)) :=
  br_t rfl (br_t rfl (nm_e (yf_later ho k)))
theorem yf_put {post : SY → Prop} {z : Nat} {b : Int32} (hz : z < 100) (k : post (xT, xL, nI (z + 1), xC, xG, yV, yD, yR, yA, 0, yO, kk, kb, kp, kf, kn, ki, ka, kg, kh, yb, upd yw z b, nu, rs, yt, ys, yc, yl, yn, yv, yo, ym, yf, tv, tt, tg, yp, yh)) : (wpY_put post (xT, xL, nI z, xC, xG, yV, yD, yR, yA, 0, yO, kk, kb, kp, kf, kn, ki, ka, kg, kh, yb, yw, nu, rs, yt, ys, yc, yl, yn, yv, yo, ym, yf, tv, tt, tg, yp, yh) b) := by
  refine br_t rfl (br_f (fun e => ?_) (br_t rfl ⟨vp_in_nI hz (by decide), nm_r (e' := upd yw z b) ?_ (nm_r (nI_1 z) k)⟩))
  · have := (ba_e100 (by omega)).mp e; omega
  · rw [nI_clamp (by omega)]
theorem yf_put_f {post : SY → Prop} {b : Int32} (k : post (xT, xL, 100, xC, xG, yV, yD, yR, yA, -7, yO, kk, kb, kp, kf, kn, ki, ka, kg, kh, yb, yw, nu, rs, yt, ys, yc, yl, yn, yv, yo, ym, yf, tv, tt, tg, yp, yh)) : (wpY_put post (xT, xL, 100, xC, xG, yV, yD, yR, yA, 0, yO, kk, kb, kp, kf, kn, ki, ka, kg, kh, yb, yw, nu, rs, yt, ys, yc, yl, yn, yv, yo, ym, yf, tv, tt, tg, yp, yh) b) := br_t rfl (br_t rfl (br_f (by decide) k))
theorem yf_put_n {post : SY → Prop} {b : Int32} (h : ¬ yF = 0) (k : post (xT, xL, yW, xC, xG, yV, yD, yR, yA, yF, yO, kk, kb, kp, kf, kn, ki, ka, kg, kh, yb, yw, nu, rs, yt, ys, yc, yl, yn, yv, yo, ym, yf, tv, tt, tg, yp, yh)) : (wpY_put post (xT, xL, yW, xC, xG, yV, yD, yR, yA, yF, yO, kk, kb, kp, kf, kn, ki, ka, kg, kh, yb, yw, nu, rs, yt, ys, yc, yl, yn, yv, yo, ym, yf, tv, tt, tg, yp, yh) b) := br_f h (br_f h k)
end
end
section
section
variable {xT xL xC xG xV xA xF xD xN xS xK xI yW yV yD yR yA yF yO : Int32} {kk kb kp kn ki ka kh kd kf xb vt va ve xo xt xp xl xd xm xz xu xe xc xf kg yb yw yt ys yc yl yn yo ym yf tv tt tg yp yh : Nat → Int32} {nu rs vn yv : Nat → Int64}
variable {D B P I : Nat → Nat} {T : Nat}
/-! plans -/
def sc_pl (P : Nat → Nat) (kn ka : Nat → Int32) (w r k : Nat) : Int32 :=
  if 0 ≤ sc_find P kn w (kn (5 * r + k)) then sc_find P kn w (kn (5 * r + k)) else if ka (5 * r + k) < 0 then sc_find P kn w (kn (5 * r + k)) else sc_find P kn w (ka (5 * r + k))
theorem sc_pl_r {w : Nat} (r k : Nat) (h5 : P w ≤ 5) : sc_pl P kn ka w r k = -1 ∨ ∃ f, f < P w ∧ sc_pl P kn ka w r k = nI f := by
  have H : ∀ x, sc_find P kn w x = -1 ∨ ∃ f, f < P w ∧ sc_find P kn w x = nI f := fun x =>
    (sc_find_r (kn := kn) x h5).elim (fun h => Or.inl h.1) (fun h => Or.inr (h.elim fun f hf => ⟨f, hf.1, hf.2.1⟩))
  unfold sc_pl
  split
  · exact H _
  · split
    · exact H _
    · exact H _
/-- a plan is not made, or it is right -/
def pl_ok (T : Nat) (P : Nat → Nat) (kn ka xz : Nat → Int32) : Prop :=
  ∀ w r k, w < T → r < T → k < 5 → xz (100 * w + 5 * r + k) = 127 ∨ xz (100 * w + 5 * r + k) = sc_pl P kn ka w r k
/-! types without a default: the least set -/
def pa_bb (D P I : Nat → Nat) (kh : Nat → Int32) (S : Nat → Prop) (t : Nat) : Prop :=
  (D t = 5 ∧ P t = 0) ∨ (D t = 8 ∧ (P t = 0 ∨ S (I (5 * t)))) ∨ (D t = 9 ∧ ∃ k, k < P t ∧ (kh (5 * t + k) = 0 ∨ S (I (5 * t + k))))
def pa_B (T : Nat) (D P I : Nat → Nat) (kh : Nat → Int32) (t : Nat) : Prop := ∀ S : Nat → Prop, (∀ j, j < T → pa_bb D P I kh S j → S j) → S t
/-! pairs that are not safe: the least set -/
def pa_pc (D B P I : Nat → Nat) (kn ka kh kf : Nat → Int32) (E : Nat → Prop) (S : Nat → Nat → Prop) (w r : Nat) : Prop :=
  (D r = 7 ∧ S (B w) (B r)) ∨ (D r = 5 ∧ kf r < 0 ∧ ∃ k, k < P w ∧ sc_find P kn r (kn (5 * w + k)) = -1)
  ∨ (D r = 9 ∧ ∃ k, k < P r ∧ ((sc_pl P kn ka w r k = -1 ∧ (kh (5 * r + k) = 0 ∨ E (I (5 * r + k)))) ∨ ∃ f, f < P w ∧ sc_pl P kn ka w r k = nI f ∧ S (I (5 * w + f)) (I (5 * r + k))))
def pa_pb (D B P I : Nat → Nat) (kn ka kh kf : Nat → Int32) (E : Nat → Prop) (S : Nat → Nat → Prop) (w r : Nat) : Prop :=
  (D w = 8 ∧ ∃ k, k < P w ∧ S (I (5 * w + k)) r)
  ∨ (¬ D w = 8 ∧ D r = 8 ∧ (sc_bf D B P I w r = -1 ∨ ∃ f, f < P r ∧ sc_bf D B P I w r = nI f ∧ S w (I (5 * r + f))))
  ∨ (¬ D w = 8 ∧ ¬ D r = 8 ∧ (sc_su D B w r = false ∨ (sc_su D B w r = true ∧ pa_pc D B P I kn ka kh kf E S w r)))
def pa_U (T : Nat) (D B P I : Nat → Nat) (kn ka kh kf : Nat → Int32) (w r : Nat) : Prop :=
  ∀ S : Nat → Nat → Prop, (∀ a b, a < T → b < T → pa_pb D B P I kn ka kh kf (pa_B T D P I kh) S a b → S a b) → S w r
/-! types that are the same: the greatest relation -/
def pa_lk (D B P I : Nat → Nat) (kn ka kh kd kf : Nat → Int32) (R : Nat → Nat → Prop) (t u : Nat) : Prop :=
  D t = D u ∧ P t = P u ∧ (D t = 6 → B t = B u) ∧ (D t = 7 → R (B t) (B u)) ∧ (D t = 5 → kf t = kf u)
  ∧ (¬ D t = 6 → ¬ D t = 7 → ∀ k, k < P t → (¬ D t = 8 → kn (5 * t + k) = kn (5 * u + k)) ∧ (¬ D t = 5 → R (I (5 * t + k)) (I (5 * u + k)))
      ∧ (D t = 9 → ka (5 * t + k) = ka (5 * u + k) ∧ kh (5 * t + k) = kh (5 * u + k) ∧ kd (5 * t + k) = kd (5 * u + k)))
def pa_S (T : Nat) (D B P I : Nat → Nat) (kn ka kh kd kf : Nat → Int32) (t u : Nat) : Prop :=
  ∃ R : Nat → Nat → Prop, (∀ a b, a < T → b < T → R a b → pa_lk D B P I kn ka kh kd kf R a b) ∧ R t u
def pa_ct (q : Nat → Bool) : Nat → Nat
  | 0 => 0
  | n + 1 => pa_ct q n + (if q n = true then 1 else 0)
/-- what X knows is right -/
def kn_ok (T : Nat) (D B P I : Nat → Nat) (kn ka kh kd kf xu xc : Nat → Int32) (xI : Int32) : Prop :=
  (∀ w r, w < T → r < T → (xu (20 * w + r) = 0 ∧ ¬ pa_U T D B P I kn ka kh kf w r) ∨ (¬ xu (20 * w + r) = 0 ∧ pa_U T D B P I kn ka kh kf w r))
  ∧ (∀ t u, t < T → u < T → (xc t = xc u ↔ pa_S T D B P I kn ka kh kd kf t u))
  ∧ (∃ q : Nat → Bool, (∀ t, t < T → (q t = true ↔ ∀ u, u < t → ¬ pa_S T D B P I kn ka kh kd kf u t)) ∧ xI = nI (pa_ct q T))
/-- bytes -/
def by_ok (xb yb : Nat → Int32) (bb : Nat → Nat) : Prop := ∀ j, xb j &&& 255 = nI (bb j) ∧ yb j = nI (bb j) ∧ bb j < 256
/-- the facts of the relation -/
def re_F (T L C G : Nat) (D B P I bb : Nat → Nat) (xK xI : Int32) (kk kb kp kn ki ka kh kd kf kg xb yb xz xu xc : Nat → Int32) : Prop :=
  sc_A D B P I kk kb kp ki ∧ sc_T T D B P I kn kh kd kg ∧ (L ≤ 100 ∧ C ≤ 100 ∧ G ≤ 150) ∧ by_ok xb yb bb ∧ pl_ok T P kn ka xz
  ∧ (xK = 0 ∨ (xK = 1 ∧ kn_ok T D B P I kn ka kh kd kf xu xc xI))
end
end
section
section
/-- the relation at the head of a turn -/
def i_Rel (_ : Nat) (u : SX) (v : SY) : Prop := ∃ (T L C G : Nat) (D B P I bb : Nat → Nat) (xV xA xF xD xN xS xK xI yW yV yD yR yA yF yO : Int32) (kk kb kp kn ki ka kh kd kf kg xb yb vt va ve xo xt xp xl xd xm xz xu xe xc xf yw yt ys yc yl yn yo ym yf tv tt tg yp yh : Nat → Int32) (nu rs vn yv : Nat → Int64), u = (nI T, nI L, nI C, nI G, xV, xA, xF, xD, xN, xS, xK, xI, kk, kb, kp, kn, ki, ka, kh, kd, kf, xb, nu, rs, vt, vn, va, ve, xo, xt, xp, xl, xd, xm, xz, xu, xe, xc, xf) ∧ v = (nI T, nI L, yW, nI C, nI G, yV, yD, yR, yA, yF, yO, kk, kb, kp, kf, kn, ki, ka, kg, kh, yb, yw, nu, rs, yt, ys, yc, yl, yn, yv, yo, ym, yf, tv, tt, tg, yp, yh) ∧ re_F T L C G D B P I bb xK xI kk kb kp kn ki ka kh kd kf kg xb yb xz xu xc
theorem i_up {k : Nat} {u : SX} {v : SY} (h : i_Rel k u v) : i_Rel (k + 7) u v := h
variable {T L C G : Nat} {D B P I bb : Nat → Nat} {xV xA xF xD xN xS xK xI yW yV yD yR yA yF yO : Int32} {kk kb kp kn ki ka kh kd kf kg xb yb vt va ve xo xt xp xl xd xm xz xu xe xc xf yw yt ys yc yl yn yo ym yf tv tt tg yp yh : Nat → Int32} {nu rs vn yv : Nat → Int64}
theorem re_in {k : Nat} (h : re_F T L C G D B P I bb xK xI kk kb kp kn ki ka kh kd kf kg xb yb xz xu xc) : i_Rel k (nI T, nI L, nI C, nI G, xV, xA, xF, xD, xN, xS, xK, xI, kk, kb, kp, kn, ki, ka, kh, kd, kf, xb, nu, rs, vt, vn, va, ve, xo, xt, xp, xl, xd, xm, xz, xu, xe, xc, xf) (nI T, nI L, yW, nI C, nI G, yV, yD, yR, yA, yF, yO, kk, kb, kp, kf, kn, ki, ka, kg, kh, yb, yw, nu, rs, yt, ys, yc, yl, yn, yv, yo, ym, yf, tv, tt, tg, yp, yh) :=
  ⟨T, L, C, G, D, B, P, I, bb, xV, xA, xF, xD, xN, xS, xK, xI, yW, yV, yD, yR, yA, yF, yO, kk, kb, kp, kn, ki, ka, kh, kd, kf, kg, xb, yb, vt, va, ve, xo, xt, xp, xl, xd, xm, xz, xu, xe, xc, xf, yw, yt, ys, yc, yl, yn, yo, ym, yf, tv, tt, tg, yp, yh, nu, rs, vn, yv, rfl, rfl, h⟩
theorem re_s {a b : SX} {c d : SY} {Q : SX → SY → Prop} (h1 : a = b) (h2 : c = d) (h : Q b d) : Q a c := by rw [h1, h2]; exact h
theorem re_el {k : Nat} {u : SX} {v : SY} {Q : SX → SY → Prop} (h : ∀ (T L C G : Nat) (D B P I bb : Nat → Nat) (xV xA xF xD xN xS xK xI yW yV yD yR yA yF yO : Int32) (kk kb kp kn ki ka kh kd kf kg xb yb vt va ve xo xt xp xl xd xm xz xu xe xc xf yw yt ys yc yl yn yo ym yf tv tt tg yp yh : Nat → Int32) (nu rs vn yv : Nat → Int64), re_F T L C G D B P I bb xK xI kk kb kp kn ki ka kh kd kf kg xb yb xz xu xc → Q (nI T, nI L, nI C, nI G, xV, xA, xF, xD, xN, xS, xK, xI, kk, kb, kp, kn, ki, ka, kh, kd, kf, xb, nu, rs, vt, vn, va, ve, xo, xt, xp, xl, xd, xm, xz, xu, xe, xc, xf) (nI T, nI L, yW, nI C, nI G, yV, yD, yR, yA, yF, yO, kk, kb, kp, kf, kn, ki, ka, kg, kh, yb, yw, nu, rs, yt, ys, yc, yl, yn, yv, yo, ym, yf, tv, tt, tg, yp, yh)) (J : i_Rel k u v) : Q u v :=
  Exists.elim J (fun T z => Exists.elim z (fun L z => Exists.elim z (fun C z => Exists.elim z (fun G z => Exists.elim z (fun D z => Exists.elim z (fun B z => Exists.elim z (fun P z => Exists.elim z (fun I z => Exists.elim z (fun bb z => Exists.elim z (fun xV z => Exists.elim z (fun xA z => Exists.elim z (fun xF z => Exists.elim z (fun xD z => Exists.elim z (fun xN z => Exists.elim z (fun xS z => Exists.elim z (fun xK z => Exists.elim z (fun xI z => Exists.elim z (fun yW z => Exists.elim z (fun yV z => Exists.elim z (fun yD z => Exists.elim z (fun yR z => Exists.elim z (fun yA z => Exists.elim z (fun yF z => Exists.elim z (fun yO z => Exists.elim z (fun kk z => Exists.elim z (fun kb z => Exists.elim z (fun kp z => Exists.elim z (fun kn z => Exists.elim z (fun ki z => Exists.elim z (fun ka z => Exists.elim z (fun kh z => Exists.elim z (fun kd z => Exists.elim z (fun kf z => Exists.elim z (fun kg z => Exists.elim z (fun xb z => Exists.elim z (fun yb z => Exists.elim z (fun vt z => Exists.elim z (fun va z => Exists.elim z (fun ve z => Exists.elim z (fun xo z => Exists.elim z (fun xt z => Exists.elim z (fun xp z => Exists.elim z (fun xl z => Exists.elim z (fun xd z => Exists.elim z (fun xm z => Exists.elim z (fun xz z => Exists.elim z (fun xu z => Exists.elim z (fun xe z => Exists.elim z (fun xc z => Exists.elim z (fun xf z => Exists.elim z (fun yw z => Exists.elim z (fun yt z => Exists.elim z (fun ys z => Exists.elim z (fun yc z => Exists.elim z (fun yl z => Exists.elim z (fun yn z => Exists.elim z (fun yo z => Exists.elim z (fun ym z => Exists.elim z (fun yf z => Exists.elim z (fun tv z => Exists.elim z (fun tt z => Exists.elim z (fun tg z => Exists.elim z (fun yp z => Exists.elim z (fun yh z => Exists.elim z (fun nu z => Exists.elim z (fun rs z => Exists.elim z (fun vn z => Exists.elim z (fun yv z => re_s z.1 z.2.1 (h T L C G D B P I bb xV xA xF xD xN xS xK xI yW yV yD yR yA yF yO kk kb kp kn ki ka kh kd kf kg xb yb vt va ve xo xt xp xl xd xm xz xu xe xc xf yw yt ys yc yl yn yo ym yf tv tt tg yp yh nu rs vn yv z.2.2)))))))))))))))))))))))))))))))))))))))))))))))))))))))))))))))))))))
end
end
section
section
variable {xT xL xC xG xV xA xF xD xN xS xK xI yW yV yD yR yA yF yO : Int32} {kk kb kp kn ki ka kh kd kf xb vt va ve xo xt xp xl xd xm xz xu xe xc xf kg yb yw yt ys yc yl yn yo ym yf tv tt tg yp yh : Nat → Int32} {nu rs vn yv : Nat → Int64}
variable {D B P I bb : Nat → Nat} {T L C G : Nat}
theorem sm_7 {post : SX → Prop} : ∀ m i n : Nat, ∀ xz : Nat → Int32, i + m = 2000 → m < n → (∀ j, j < i → xz j = 127) → (∀ xz : Nat → Int32, (∀ j, j < 2000 → xz j = 127) → post (xT, xL, xC, xG, xV, xA, xF, xD, xN, xS, xK, xI, kk, kb, kp, kn, ki, ka, kh, kd, kf, xb, nu, rs, vt, vn, va, ve, xo, xt, xp, xl, xd, xm, xz, xu, xe, xc, xf)) → (wX_changed_7 post xT xL xC xG xV xA xF xD xN xS xK xI n (nI i) kk kb kp kn ki ka kh kd kf xb nu rs vt vn va ve xo xt xp xl xd xm xz xu xe xc xf) := by
  intro m
  induction m with
  | zero =>
    intro i n xz hi hn h K
    obtain ⟨n, rfl⟩ : ∃ n', n = n' + 1 := ⟨n - 1, by omega⟩
    exact br_t ((ba_ge2000 (by omega)).mpr (by omega)) (K xz (fun j hj => h j (by omega)))
  | succ m ih =>
    intro i n xz hi hn h K
    obtain ⟨n, rfl⟩ : ∃ n', n = n' + 1 := ⟨n - 1, by omega⟩
    refine br_f (fun e => ?_) ⟨vp_in_nI (by omega) (by decide), nm_r (e' := upd xz i 127) ?_ (nm_r (nI_1 i) (ih (i + 1) n (upd xz i 127) (by omega) (by omega) ?_ K))⟩
    · have := (ba_ge2000 (by omega)).mp e; omega
    · rw [nI_clamp (by omega), ba_vb127]
    · intro j hj
      by_cases e : j = i
      · rw [e, ba_us]
      · rw [ba_un e]; exact h j (by omega)
theorem sm_changed {post : SX → Prop} (K : ∀ xz : Nat → Int32, (∀ j, j < 2000 → xz j = 127) → post (xT, xL, xC, xG, xV, xA, xF, xD, xN, xS, 0, xI, kk, kb, kp, kn, ki, ka, kh, kd, kf, xb, nu, rs, vt, vn, va, ve, xo, xt, xp, xl, xd, xm, xz, xu, xe, xc, xf)) : (wpX_changed post (xT, xL, xC, xG, xV, xA, xF, xD, xN, xS, xK, xI, kk, kb, kp, kn, ki, ka, kh, kd, kf, xb, nu, rs, vt, vn, va, ve, xo, xt, xp, xl, xd, xm, xz, xu, xe, xc, xf)) :=
  Exists.intro 2001 (sm_7 2000 0 2001 xz (by omega) (by omega) (fun j hj => by omega) K)
theorem sm_pl (h : ∀ j, j < 2000 → xz j = 127) (hT : T ≤ 20) : pl_ok T P kn ka xz := fun w r k hw hr hk => Or.inl (h _ (by omega))
theorem sm_uN {f : Nat → Int32} {F : Nat → Nat} {i x : Nat} (h : ∀ j, f j = nI (F j)) : ∀ j, upd f i (nI x) j = nI (gh_u F i x j) := by
  intro j
  by_cases e : j = i
  · rw [e, ba_us, gh_us]
  · rw [ba_un e, gh_un e, h]
theorem sm_uB {F : Nat → Nat} {i x b : Nat} (h : ∀ j, F j < b) (hx : x < b) : ∀ j, gh_u F i x j < b := by
  intro j
  by_cases e : j = i
  · rw [e, gh_us]; exact hx
  · rw [gh_un e]; exact h j
theorem sm_uC {F : Nat → Nat} {i x b : Nat} (h : ∀ j, F j ≤ b) (hx : x ≤ b) : ∀ j, gh_u F i x j ≤ b := by
  intro j
  by_cases e : j = i
  · rw [e, gh_us]; exact hx
  · rw [gh_un e]; exact h j
/-! type -/
theorem sm_x51 {post : Int32 → SX → Prop} {x2 : Int32} {c a : Nat} (hT : T < 20) (hc : c ≤ 9) (ha : a < 20) (h67 : c = 6 ∨ c = 7 → x2 = nI a) (h0 : ¬ (c = 6 ∨ c = 7) → a = 0) (hp : kp T = 0)
    (K : ∀ xz : Nat → Int32, (∀ j, j < 2000 → xz j = 127) → post (nI T) (nI (T + 1), xL, xC, xG, xV, xA, xF, xD, xN, xS, 0, xI, upd kk T (nI c), upd kb T (nI a), kp, kn, ki, ka, kh, kd, upd kf T (-1), xb, nu, rs, vt, vn, va, ve, xo, xt, xp, xl, xd, xm, xz, xu, xe, xc, xf)) : (wX_type_51 post (nI c) x2 (nI T) xL xC xG xV xA xF xD xN xS xK xI kk kb kp kn ki ka kh kd kf xb nu rs vt vn va ve xo xt xp xl xd xm xz xu xe xc xf) := by
  have v : vp_in (nI T) 20 := vp_in_nI hT (by decide)
  have J : (wX_type_87 post (nI a) (nI T) (nI T) xL xC xG xV xA xF xD xN xS xK xI (upd kk T (nI c)) kb kp kn ki ka kh kd kf xb nu rs vt vn va ve xo xt xp xl xd xm xz xu xe xc xf) := by
    refine And.intro v (nm_r (e' := upd kb T (nI a)) ?_ ⟨v, nm_r (e' := kp) ?_ ⟨v, nm_r (e' := upd kf T (-1)) ?_ (sm_changed fun xz h => nm_r (nI_1 T) (K xz h))⟩⟩)
    · rw [nI_clamp (by omega), pk_vb, ba_b (by omega)]
    · rw [nI_clamp (by omega), ba_vb0]; exact ba_uu hp
    · rw [nI_clamp (by omega), ba_vbm]
  refine And.intro v (nm_r (e' := upd kk T (nI c)) ?_ ?_)
  · rw [nI_clamp (by omega), pk_vb, ba_b (by omega)]
  · by_cases e6 : c = 6
    · rw [h67 (Or.inl e6), e6]
      rw [e6] at J
      exact br_t rfl J
    · refine br_f (fun e => e6 ((ba_e6 (by omega)).mp e)) ?_
      by_cases e7 : c = 7
      · rw [h67 (Or.inr e7), e7]
        rw [e7] at J
        exact br_t rfl J
      · refine br_f (fun e => e7 ((ba_e7 (by omega)).mp e)) ?_
        rw [h0 (by omega)] at J
        exact J
theorem sm_y57 {post : Int32 → SY → Prop} {x2 : Int32} {c a : Nat} (hT : T < 20) (hc : c ≤ 9) (ha : a < 20) (h67 : c = 6 ∨ c = 7 → x2 = nI a) (h0 : ¬ (c = 6 ∨ c = 7) → a = 0)
    (K : post (nI T) (nI (T + 1), xL, yW, xC, xG, yV, yD, yR, yA, yF, yO, upd kk T (nI c), upd kb T (nI a), kp, upd kf T (-1), kn, ki, ka, kg, kh, yb, yw, nu, rs, yt, ys, yc, yl, yn, yv, yo, ym, yf, tv, tt, tg, yp, yh)) : (wY_type_57 post (nI c) x2 (nI T) xL yW xC xG yV yD yR yA yF yO kk kb kp kf kn ki ka kg kh yb yw nu rs yt ys yc yl yn yv yo ym yf tv tt tg yp yh) := by
  have v : vp_in (nI T) 20 := vp_in_nI hT (by decide)
  have J : (wY_type_92 post (nI a) (nI T) (nI T) xL yW xC xG yV yD yR yA yF yO (upd kk T (nI c)) kb kp kf kn ki ka kg kh yb yw nu rs yt ys yc yl yn yv yo ym yf tv tt tg yp yh) := by
    refine And.intro v (nm_r (e' := upd kb T (nI a)) ?_ ⟨v, nm_r (e' := upd kf T (-1)) ?_ (nm_r (nI_1 T) ?_)⟩)
    · rw [nI_clamp (by omega)]
    · rw [nI_clamp (by omega)]
    · rw [nI_pred]; exact K
  refine And.intro v (nm_r (e' := upd kk T (nI c)) ?_ ?_)
  · rw [nI_clamp (by omega)]
  · by_cases e6 : c = 6
    · rw [h67 (Or.inl e6), e6]
      rw [e6] at J
      exact br_t rfl J
    · refine br_f (fun e => e6 ((ba_e6 (by omega)).mp e)) ?_
      by_cases e7 : c = 7
      · rw [h67 (Or.inr e7), e7]
        rw [e7] at J
        exact br_t rfl J
      · refine br_f (fun e => e7 ((ba_e7 (by omega)).mp e)) ?_
        rw [h0 (by omega)] at J
        exact J
theorem sm_tF {c a : Nat} (F : re_F T L C G D B P I bb xK xI kk kb kp kn ki ka kh kd kf kg xb yb xz xu xc) (hT : T < 20) (hc : c ≤ 9) (ha : a < 20) (h6 : c = 6 → a ≤ 8) (h7 : c = 7 → a < T) {xz' : Nat → Int32} (hz : ∀ j, j < 2000 → xz' j = 127) :
    re_F (T + 1) L C G (gh_u D T c) (gh_u B T a) P I bb 0 xI (upd kk T (nI c)) (upd kb T (nI a)) kp kn ki ka kh kd (upd kf T (-1)) kg xb yb xz' xu xc := by
  obtain ⟨⟨a1, a2, a3, a4, a5, a6, a7, a8⟩, ⟨t1, t2, t3, t4, t5, t6, t7, t8⟩, l, b, z, kz⟩ := F
  refine ⟨⟨sm_uN a1, sm_uC a2 hc, sm_uN a3, sm_uB a4 ha, a5, a6, a7, a8⟩, ⟨by omega, fun j hj => t2 j (by omega), fun j => by have := t3 j; omega, ?_, ?_, ?_, t7, t8⟩, l, b, sm_pl hz (by omega), Or.inl rfl⟩
  · intro j hj
    by_cases e : j = T
    · subst e
      rw [gh_us] at hj ⊢
      have := h7 hj
      omega
    · rw [gh_un e] at hj ⊢
      have := t4 j hj
      omega
  · intro j hj
    by_cases e : j = T
    · subst e
      rw [gh_us] at hj ⊢
      exact h6 hj
    · rw [gh_un e] at hj ⊢
      exact t5 j hj
  · intro t k ht hk
    by_cases e : t = T
    · have := t2 t (by omega); omega
    · rw [gh_un e] at ht
      have hh : t < T := by
        rcases Nat.lt_or_ge t T with q | q
        · exact q
        · have := t2 t q; omega
      have hi := t3 (5 * t + k)
      rw [gh_un (by omega)]
      exact t6 t k ht hk
theorem sm_ix (x : Int32) {n : Nat} (hn : n < 2 ^ 31) : (x < 0 ∨ nI n ≤ x) ∨ ∃ j : Nat, j < n ∧ x = nI j := by
  rcases pk_ix x hn with h | h | h
  · exact Or.inl (Or.inl h)
  · exact Or.inl (Or.inr h)
  · exact Or.inr h
theorem sm_gt {x y : Int32} {n : Nat} (h : nI (n + 1) ≤ x) (hy : y = nI n) (hn : n + 1 < 2 ^ 31) : y < x := by
  rw [hy, Int32.lt_iff_toInt_lt, nI_toInt (by omega)]
  rw [Int32.le_iff_toInt_le, nI_toInt hn] at h
  omega
theorem sm_type {k : Nat} (F : re_F T L C G D B P I bb xK xI kk kb kp kn ki ka kh kd kf kg xb yb xz xu xc) (v1 v2 : Int32) : wpX_type (fun r u' => wpY_type (fun r' v' => r' = r ∧ i_Rel (k + 7) u' v') (nI T, nI L, yW, nI C, nI G, yV, yD, yR, yA, yF, yO, kk, kb, kp, kf, kn, ki, ka, kg, kh, yb, yw, nu, rs, yt, ys, yc, yl, yn, yv, yo, ym, yf, tv, tt, tg, yp, yh) v1 v2) (nI T, nI L, nI C, nI G, xV, xA, xF, xD, xN, xS, xK, xI, kk, kb, kp, kn, ki, ka, kh, kd, kf, xb, nu, rs, vt, vn, va, ve, xo, xt, xp, xl, xd, xm, xz, xu, xe, xc, xf) v1 v2 := by
  have hT : T ≤ 20 := F.2.1.1
  have F0 := F
  by_cases e : T = 20
  · exact br_t (congrArg nI e) (br_t (congrArg nI e) ⟨rfl, re_in F⟩)
  have ne : ¬ nI T = 20 := fun h => e ((ba_e20 (by omega)).mp h)
  rcases sm_ix v1 (n := 10) (by decide) with h | ⟨c, hc, rfl⟩
  · have r0 : ∀ post : Int32 → Prop, post 0 → wpY_in post v1 0 9 := fun post hp => yf_in_n (h.imp id (fun z => sm_gt z rfl (by decide))) hp
    by_cases z : v1 < 0
    · exact br_f ne (br_t z (br_f ne (r0 _ (br_t rfl ⟨rfl, re_in F⟩))))
    · exact br_f ne (br_f z (br_t (sm_gt (h.resolve_left z) rfl (by decide)) (br_f ne (r0 _ (br_t rfl ⟨rfl, re_in F⟩)))))
  · have n1 : ¬ nI c < 0 := nI_pos (by omega)
    have n2 : ¬ (9 : Int32) < nI c := fun h => by have := (ba_gt9 (by omega)).mp h; omega
    have r1 : ∀ post : Int32 → Prop, post 1 → wpY_in post (nI c) 0 9 := fun post hp => yf_in_y (nI_pos' (by omega)) (Int32.not_lt.mp n2) hp
    have hp : kp T = 0 := by rw [F.1.2.2.2.2.1 T, F.2.1.2.1 T (by omega)]; rfl
    by_cases e6 : c = 6
    · subst e6
      have g7 : ¬ nI 6 = 7 := by decide
      refine br_f ne (br_f n1 (br_f n2 (br_t rfl ?_)))
      rcases sm_ix v2 (n := 9) (by decide) with h | ⟨a, ha, rfl⟩
      · have r0 : ∀ post : Int32 → Prop, post 0 → wpY_in post v2 0 8 := fun post hp => yf_in_n (h.imp id (fun z => sm_gt z rfl (by decide))) hp
        have Y : wpY_type (fun r' v' => r' = -1 ∧ i_Rel (k + 7) (nI T, nI L, nI C, nI G, xV, xA, xF, xD, xN, xS, xK, xI, kk, kb, kp, kn, ki, ka, kh, kd, kf, xb, nu, rs, vt, vn, va, ve, xo, xt, xp, xl, xd, xm, xz, xu, xe, xc, xf) v') (nI T, nI L, yW, nI C, nI G, yV, yD, yR, yA, yF, yO, kk, kb, kp, kf, kn, ki, ka, kg, kh, yb, yw, nu, rs, yt, ys, yc, yl, yn, yv, yo, ym, yf, tv, tt, tg, yp, yh) (nI 6) v2 := br_f ne (r1 _ (br_f (by decide) (br_t rfl (r0 _ (br_t rfl ⟨rfl, re_in F⟩)))))
        by_cases z : v2 < 0
        · exact br_t z Y
        · exact br_f z (br_t (sm_gt (h.resolve_left z) rfl (by decide)) Y)
      · have m2 : ¬ (8 : Int32) < nI a := fun h => by have := (ba_gt8 (by omega)).mp h; omega
        refine br_f (nI_pos (by omega)) (br_f m2 (br_f g7 (sm_x51 (a := a) (by omega) (by omega) (by omega) (fun _ => rfl) (fun h => absurd (Or.inl rfl) h) hp fun xz hz => ?_)))
        refine br_f ne (r1 _ (br_f (by decide) (br_t rfl (yf_in_y (nI_pos' (by omega)) (Int32.not_lt.mp m2) (br_f (by decide) (br_f g7 (sm_y57 (a := a) (by omega) (by omega) (by omega) (fun _ => rfl) (fun h => absurd (Or.inl rfl) h) ?_)))))))
        exact ⟨rfl, re_in (sm_tF F0 (by omega) (by omega) (by omega) (fun _ => by omega) (fun h => by omega) hz)⟩
    · have g6 : ¬ nI c = 6 := fun h => e6 ((ba_e6 (by omega)).mp h)
      refine br_f ne (br_f n1 (br_f n2 (br_f g6 ?_)))
      by_cases e7 : c = 7
      · subst e7
        refine br_t rfl ?_
        rcases sm_ix v2 (n := T) (by omega) with h | ⟨a, ha, rfl⟩
        · exact xf_isType_n h (br_t rfl (br_f ne (r1 _ (br_f (by decide) (br_f g6 (br_t rfl (yf_isT_n hT h (br_t rfl ⟨rfl, re_in F⟩))))))))
        · refine xf_isType_y hT ha (br_f (by decide) (sm_x51 (a := a) (by omega) (by omega) (by omega) (fun _ => rfl) (fun h => absurd (Or.inr rfl) h) hp fun xz hz => ?_))
          refine br_f ne (r1 _ (br_f (by decide) (br_f g6 (br_t rfl (yf_isT_y hT ha (br_f (by decide) (sm_y57 (a := a) (by omega) (by omega) (by omega) (fun _ => rfl) (fun h => absurd (Or.inr rfl) h) ?_)))))))
          exact ⟨rfl, re_in (sm_tF F0 (by omega) (by omega) (by omega) (fun h => by omega) (fun _ => ha) hz)⟩
      · have g7 : ¬ nI c = 7 := fun h => e7 ((ba_e7 (by omega)).mp h)
        refine br_f g7 (sm_x51 (a := 0) (by omega) (by omega) (by omega) (fun h => by omega) (fun _ => rfl) hp fun xz hz => ?_)
        refine br_f ne (r1 _ (br_f (by decide) (br_f g6 (br_f g7 (sm_y57 (a := 0) (by omega) (by omega) (by omega) (fun h => by omega) (fun _ => rfl) ?_)))))
        exact ⟨rfl, re_in (sm_tF F0 (by omega) (by omega) (by omega) (fun h => by omega) (fun h => by omega) hz)⟩
end
end
section
section
variable {xT xL xC xG xV xA xF xD xN xS xK xI yW yV yD yR yA yF yO : Int32} {kk kb kp kn ki ka kh kd kf xb vt va ve xo xt xp xl xd xm xz xu xe xc xf kg yb yw yt ys yc yl yn yo ym yf tv tt tg yp yh : Nat → Int32} {nu rs vn yv : Nat → Int64}
variable {D B P I bb : Nat → Nat} {T L C G : Nat}
theorem sm_is_n {post : Int32 → Prop} {x c : Int32} (h : x < 0 ∨ nI T ≤ x) (k : post 0) : (wpX_is post (nI T, xL, xC, xG, xV, xA, xF, xD, xN, xS, xK, xI, kk, kb, kp, kn, ki, ka, kh, kd, kf, xb, nu, rs, vt, vn, va, ve, xo, xt, xp, xl, xd, xm, xz, xu, xe, xc, xf) x c) := by
  unfold wpX_is
  exact xf_isType_n h (br_t rfl k)
theorem sm_is_y {post : Int32 → Prop} {t : Nat} {c : Int32} (hT : T ≤ 20) (ht : t < T) (e : kk t = c) (k : post 1) : (wpX_is post (nI T, xL, xC, xG, xV, xA, xF, xD, xN, xS, xK, xI, kk, kb, kp, kn, ki, ka, kh, kd, kf, xb, nu, rs, vt, vn, va, ve, xo, xt, xp, xl, xd, xm, xz, xu, xe, xc, xf) (nI t) c) := by
  unfold wpX_is
  exact xf_isType_y hT ht (br_f (by decide) ⟨vp_in_nI (by omega) (by decide), br_t (by rw [nI_clamp (by omega)]; exact e) k⟩)
theorem sm_is_0 {post : Int32 → Prop} {t : Nat} {c : Int32} (hT : T ≤ 20) (ht : t < T) (e : ¬ kk t = c) (k : post 0) : (wpX_is post (nI T, xL, xC, xG, xV, xA, xF, xD, xN, xS, xK, xI, kk, kb, kp, kn, ki, ka, kh, kd, kf, xb, nu, rs, vt, vn, va, ve, xo, xt, xp, xl, xd, xm, xz, xu, xe, xc, xf) (nI t) c) := by
  unfold wpX_is
  exact xf_isType_y hT ht (br_f (by decide) ⟨vp_in_nI (by omega) (by decide), br_f (by rw [nI_clamp (by omega)]; exact e) k⟩)
theorem sn_is_n {post : Int32 → Prop} {x c : Int32} (hT : T ≤ 20) (h : x < 0 ∨ nI T ≤ x) (k : post 0) : (wpY_is post (nI T, xL, yW, xC, xG, yV, yD, yR, yA, yF, yO, kk, kb, kp, kf, kn, ki, ka, kg, kh, yb, yw, nu, rs, yt, ys, yc, yl, yn, yv, yo, ym, yf, tv, tt, tg, yp, yh) x c) := by
  unfold wpY_is
  exact yf_isT_n hT h (br_t rfl k)
theorem sn_is_y {post : Int32 → Prop} {t : Nat} {c : Int32} (hT : T ≤ 20) (ht : t < T) (e : kk t = c) (k : post 1) : (wpY_is post (nI T, xL, yW, xC, xG, yV, yD, yR, yA, yF, yO, kk, kb, kp, kf, kn, ki, ka, kg, kh, yb, yw, nu, rs, yt, ys, yc, yl, yn, yv, yo, ym, yf, tv, tt, tg, yp, yh) (nI t) c) := by
  unfold wpY_is
  exact yf_isT_y hT ht (br_f (by decide) ⟨vp_in_nI (by omega) (by decide), br_t (by rw [nI_clamp (by omega)]; exact e) k⟩)
theorem sn_is_0 {post : Int32 → Prop} {t : Nat} {c : Int32} (hT : T ≤ 20) (ht : t < T) (e : ¬ kk t = c) (k : post 0) : (wpY_is post (nI T, xL, yW, xC, xG, yV, yD, yR, yA, yF, yO, kk, kb, kp, kf, kn, ki, ka, kg, kh, yb, yw, nu, rs, yt, ys, yc, yl, yn, yv, yo, ym, yf, tv, tt, tg, yp, yh) (nI t) c) := by
  unfold wpY_is
  exact yf_isT_y hT ht (br_f (by decide) ⟨vp_in_nI (by omega) (by decide), br_f (by rw [nI_clamp (by omega)]; exact e) k⟩)
theorem sm_name_n {post : Int32 → Prop} {x : Int32} (h : x < 0 ∨ nI 16 ≤ x) (k : post 0) : wpX_isName post x := by
  by_cases z : x < 0
  · exact br_t z k
  · exact br_f z (br_t (h.resolve_left z) k)
theorem sm_name_y {post : Int32 → Prop} {j : Nat} (h : j < 16) (k : post 1) : wpX_isName post (nI j) :=
  br_f (nI_pos (by omega)) (br_f (fun e => by have := (ba_ge16 (by omega)).mp e; omega) k)
theorem sn_name_n {post : Int32 → Prop} {x : Int32} (h : x < 0 ∨ nI 16 ≤ x) (k : post 0) : wpY_in post x 0 15 := yf_in_n (h.imp id (fun z => sm_gt z rfl (by decide))) k
theorem sn_name_y {post : Int32 → Prop} {j : Nat} (h : j < 16) (k : post 1) : wpY_in post (nI j) 0 15 := yf_in_y (nI_pos' (by omega)) ((ba_le15 (by omega)).mpr (by omega)) k
theorem sm_grow {post : Int32 → SX → Prop} {t : Nat} (hA : sc_A D B P I kk kb kp ki) (ht : t < 20) (K : ∀ xz : Nat → Int32, (∀ j, j < 2000 → xz j = 127) → post (nI (P t + 1)) (xT, xL, xC, xG, xV, xA, xF, xD, xN, xS, 0, xI, kk, kb, upd kp t (nI (P t + 1)), kn, ki, ka, kh, kd, kf, xb, nu, rs, vt, vn, va, ve, xo, xt, xp, xl, xd, xm, xz, xu, xe, xc, xf)) : (wpX_grow post (xT, xL, xC, xG, xV, xA, xF, xD, xN, xS, xK, xI, kk, kb, kp, kn, ki, ka, kh, kd, kf, xb, nu, rs, vt, vn, va, ve, xo, xt, xp, xl, xd, xm, xz, xu, xe, xc, xf) (nI t)) := by
  have h5 := sc_p5 hA t
  have v : vp_in (nI t) 20 := vp_in_nI ht (by decide)
  have e : ((kp (nI t).toNatClampNeg) + 1).toInt8.toInt32 = nI (P t + 1) := by
    rw [nI_clamp (by omega), sc_p hA, nI_1, ba_b (by omega)]
  unfold wpX_grow
  refine sm_changed fun xz hz => ⟨v, v, nm_r (e' := upd kp t (nI (P t + 1))) ?_ ?_⟩
  · rw [pk_vb, e, nI_clamp (by omega)]
  · rw [e]; exact K xz hz
/-! symbol -/
theorem sm_kind {t c : Nat} (hA : sc_A D B P I kk kb kp ki) (hc : c ≤ 9) : kk t = nI c ↔ D t = c := by
  have := sc_k9 hA t
  rw [sc_k hA]; exact nI_eq (by omega) (by omega)
theorem sm_sF {t j : Nat} (F : re_F T L C G D B P I bb xK xI kk kb kp kn ki ka kh kd kf kg xb yb xz xu xc) (ht : t < T) (h5 : D t = 5) (hp : P t < 5) (hj : j < 16) {xz' : Nat → Int32} (hz : ∀ j, j < 2000 → xz' j = 127) :
    re_F T L C G D B (gh_u P t (P t + 1)) I bb 0 xI kk kb (upd kp t (nI (P t + 1))) (upd kn (5 * t + P t) (nI j)) ki ka kh kd kf kg xb yb xz' xu xc := by
  obtain ⟨⟨a1, a2, a3, a4, a5, a6, a7, a8⟩, ⟨t1, t2, t3, t4, t5, t6, t7, t8⟩, l, b, z, kz⟩ := F
  refine ⟨⟨a1, a2, a3, a4, sm_uN a5, sm_uC a6 (by omega), a7, a8⟩, ⟨t1, ?_, t3, t4, t5, ?_, ?_, t8⟩, l, b, sm_pl hz (by omega), Or.inl rfl⟩
  · intro i hi
    rw [gh_un (by omega)]; exact t2 i hi
  · intro s k hs hk
    have ne : s ≠ t := fun e => by rw [e] at hs; omega
    rw [gh_un ne] at hk
    exact t6 s k hs hk
  · intro i
    by_cases e : i = 5 * t + P t
    · rw [e, ba_us]; exact ⟨nI_pos' (by omega), (ba_lt16 (by omega)).mpr hj⟩
    · rw [ba_un e]; exact t7 i
theorem sm_ps {t : Nat} (hA : sc_A D B P I kk kb kp ki) (ht : t < 20) : kp (nI t).toNatClampNeg = nI (P t) := by
  rw [nI_clamp (by omega), sc_p hA]
theorem sm_symbol {k : Nat} (F : re_F T L C G D B P I bb xK xI kk kb kp kn ki ka kh kd kf kg xb yb xz xu xc) (v1 v2 : Int32) : wpX_symbol (fun r u' => wpY_symbol (fun r' v' => r' = r ∧ i_Rel (k + 7) u' v') (nI T, nI L, yW, nI C, nI G, yV, yD, yR, yA, yF, yO, kk, kb, kp, kf, kn, ki, ka, kg, kh, yb, yw, nu, rs, yt, ys, yc, yl, yn, yv, yo, ym, yf, tv, tt, tg, yp, yh) v1 v2) (nI T, nI L, nI C, nI G, xV, xA, xF, xD, xN, xS, xK, xI, kk, kb, kp, kn, ki, ka, kh, kd, kf, xb, nu, rs, vt, vn, va, ve, xo, xt, xp, xl, xd, xm, xz, xu, xe, xc, xf) v1 v2 := by
  unfold wpX_symbol wpY_symbol
  have hT : T ≤ 20 := F.2.1.1
  have hA := F.1
  rcases sm_ix v1 (n := T) (by omega) with h | ⟨t, ht, rfl⟩
  · exact sm_is_n h (br_t rfl (sn_is_n hT h (br_t rfl ⟨rfl, re_in F⟩)))
  have hvt : vp_in (nI t) 20 := vp_in_nI (by omega) (by decide)
  have hP := sc_p5 hA t
  by_cases e5 : D t = 5
  · have k5 : kk t = 5 := (sm_kind hA (by decide)).mpr e5
    refine sm_is_y hT ht k5 (br_f (by decide) (And.intro hvt ?_))
    by_cases p5 : P t = 5
    · have pe : kp (nI t).toNatClampNeg = 5 := by rw [sm_ps hA (by omega), p5]; rfl
      exact br_t pe (sn_is_y hT ht k5 (br_f (by decide) ⟨hvt, br_t pe ⟨rfl, re_in F⟩⟩))
    have pe : ¬ kp (nI t).toNatClampNeg = 5 := by rw [sm_ps hA (by omega)]; exact fun h => p5 ((ba_e5 (by omega)).mp h)
    refine br_f pe ?_
    rcases sm_ix v2 (n := 16) (by decide) with h | ⟨j, hj, rfl⟩
    · exact sm_name_n h (br_t rfl (sn_is_y hT ht k5 (br_f (by decide) ⟨hvt, br_f pe (sn_name_n h (br_t rfl ⟨rfl, re_in F⟩))⟩)))
    refine sm_name_y hj (br_f (by decide) (xn_named hA (by omega) ?_))
    rcases sc_find_r (P := P) (kn := kn) (t := t) (nI j) (by omega) with ⟨hf, _⟩ | ⟨f, hf1, hf, _⟩
    · rw [hf]
      refine br_t ba_m1lt ⟨hvt, ?_⟩
      rw [sm_ps hA (by omega), ba_5, nI_add, nI_clamp (by omega)]
      refine ⟨vp_in_nI (by omega) (by decide), nm_r (e' := upd kn (5 * t + P t) (nI j)) ?_ (sm_grow hA (by omega) fun xz hz => ?_)⟩
      · rw [pk_vb, ba_b (by omega)]
      · refine sn_is_y hT ht k5 (br_f (by decide) ⟨hvt, br_f pe (sn_name_y hj (br_f (by decide) (yn_find hA (by omega) ?_)))⟩)
        rw [hf]
        refine br_t ba_m1lt ⟨hvt, ?_⟩
        rw [sm_ps hA (by omega), nI_add, nI_clamp (by omega), nI_1, nI_clamp (by omega)]
        refine ⟨vp_in_nI (by omega) (by decide), nm_e ⟨hvt, hvt, nm_e ⟨hvt, ?_⟩⟩⟩
        rw [ba_us]
        exact ⟨rfl, re_in (sm_sF F ht e5 (by omega) hj hz)⟩
    · rw [hf]
      have np : ¬ nI f < 0 := nI_pos (by omega)
      refine br_f np (sn_is_y hT ht k5 (br_f (by decide) ⟨hvt, br_f pe (sn_name_y hj (br_f (by decide) (yn_find hA (by omega) ?_)))⟩))
      rw [hf]
      exact br_f np ⟨rfl, re_in F⟩
  · have k5 : ¬ kk t = 5 := fun h => e5 ((sm_kind hA (by decide)).mp h)
    exact sm_is_0 hT ht k5 (br_t rfl (sn_is_0 hT ht k5 (br_t rfl ⟨rfl, re_in F⟩)))
/-! fallback -/
theorem sm_fF {t : Nat} {x : Int32} (F : re_F T L C G D B P I bb xK xI kk kb kp kn ki ka kh kd kf kg xb yb xz xu xc) {xz' : Nat → Int32} (hz : ∀ j, j < 2000 → xz' j = 127) :
    re_F T L C G D B P I bb 0 xI kk kb kp kn ki ka kh kd (upd kf t x) kg xb yb xz' xu xc :=
  ⟨F.1, F.2.1, F.2.2.1, F.2.2.2.1, sm_pl hz F.2.1.1, Or.inl rfl⟩
theorem sm_fb {post : Int32 → SX → Prop} {t : Nat} {x : Int32} (ht : t < 20) (hx : x.toInt8.toInt32 = x) (K : ∀ xz : Nat → Int32, (∀ j, j < 2000 → xz j = 127) → post 1 (xT, xL, xC, xG, xV, xA, xF, xD, xN, xS, 0, xI, kk, kb, kp, kn, ki, ka, kh, kd, upd kf t x, xb, nu, rs, vt, vn, va, ve, xo, xt, xp, xl, xd, xm, xz, xu, xe, xc, xf)) : (wX_fallback_32 post (nI t) x xT xL xC xG xV xA xF xD xN xS xK xI kk kb kp kn ki ka kh kd kf xb nu rs vt vn va ve xo xt xp xl xd xm xz xu xe xc xf) := by
  refine And.intro (vp_in_nI ht (by decide)) (nm_r (e' := upd kf t x) ?_ (sm_changed K))
  rw [nI_clamp (by omega), pk_vb, hx]
theorem sm_nf {t : Nat} {x : Int32} (hA : sc_A D B P I kk kb kp ki) (hn : ∀ j, 0 ≤ kn j ∧ kn j < 16) (h : x < 0 ∨ nI 16 ≤ x) : sc_find P kn t x = -1 := by
  rcases sc_find_r (P := P) (kn := kn) (t := t) x (sc_p5 hA t) with ⟨hf, _⟩ | ⟨f, hf1, hf, e⟩
  · exact hf
  · have := hn (5 * t + f)
    rw [e] at this
    exfalso
    rcases h with h | h
    · exact Int32.not_lt.mpr this.1 h
    · exact Int32.not_lt.mpr h this.2
theorem sm_fallback {k : Nat} (F : re_F T L C G D B P I bb xK xI kk kb kp kn ki ka kh kd kf kg xb yb xz xu xc) (v1 v2 : Int32) : wpX_fallback (fun r u' => wpY_fallback (fun r' v' => r' = r ∧ i_Rel (k + 7) u' v') (nI T, nI L, yW, nI C, nI G, yV, yD, yR, yA, yF, yO, kk, kb, kp, kf, kn, ki, ka, kg, kh, yb, yw, nu, rs, yt, ys, yc, yl, yn, yv, yo, ym, yf, tv, tt, tg, yp, yh) v1 v2) (nI T, nI L, nI C, nI G, xV, xA, xF, xD, xN, xS, xK, xI, kk, kb, kp, kn, ki, ka, kh, kd, kf, xb, nu, rs, vt, vn, va, ve, xo, xt, xp, xl, xd, xm, xz, xu, xe, xc, xf) v1 v2 := by
  unfold wpX_fallback wpY_fallback
  have hT : T ≤ 20 := F.2.1.1
  have hA := F.1
  rcases sm_ix v1 (n := T) (by omega) with h | ⟨t, ht, rfl⟩
  · exact sm_is_n h (br_t rfl (sn_is_n hT h (br_t rfl ⟨rfl, re_in F⟩)))
  have hvt : vp_in (nI t) 20 := vp_in_nI (by omega) (by decide)
  by_cases e5 : D t = 5
  · have k5 : kk t = 5 := (sm_kind hA (by decide)).mpr e5
    refine sm_is_y hT ht k5 (br_f (by decide) ?_)
    by_cases m : v2 = -1
    · subst m
      refine br_t rfl (sm_fb (by omega) ba_bm fun xz hz => ?_)
      refine sn_is_y hT ht k5 (br_f (by decide) (br_t rfl ⟨hvt, nm_r (e' := upd kf t (-1)) ?_ ⟨rfl, re_in (sm_fF F hz)⟩⟩))
      rw [nI_clamp (by omega)]
    refine br_f m ?_
    rcases sm_ix v2 (n := 16) (by decide) with h | ⟨j, hj, rfl⟩
    · refine sm_name_n h (br_t rfl (sn_is_y hT ht k5 (br_f (by decide) (br_f m (yn_find hA (by omega) ?_)))))
      rw [sm_nf hA (sc_n F.2.1) h]
      exact br_f ba_m1le ⟨rfl, re_in F⟩
    refine sm_name_y hj (br_f (by decide) (xn_named hA (by omega) ?_))
    rcases sc_find_r (P := P) (kn := kn) (t := t) (nI j) (sc_p5 hA t) with ⟨hf, _⟩ | ⟨f, hf1, hf, _⟩
    · rw [hf]
      refine br_f ba_m1le (sn_is_y hT ht k5 (br_f (by decide) (br_f m (yn_find hA (by omega) ?_))))
      rw [hf]
      exact br_f ba_m1le ⟨rfl, re_in F⟩
    · have h5 := sc_p5 hA t
      have np : 0 ≤ nI f := nI_pos' (by omega)
      rw [hf]
      refine br_t np (sm_fb (by omega) (ba_b (by omega)) fun xz hz => ?_)
      refine sn_is_y hT ht k5 (br_f (by decide) (br_f m (yn_find hA (by omega) ?_)))
      rw [hf]
      refine br_t np ⟨hvt, nm_r (e' := upd kf t (nI j)) ?_ ⟨rfl, re_in (sm_fF F hz)⟩⟩
      rw [nI_clamp (by omega)]
  · have k5 : ¬ kk t = 5 := fun h => e5 ((sm_kind hA (by decide)).mp h)
    exact sm_is_0 hT ht k5 (br_t rfl (sn_is_0 hT ht k5 (br_t rfl ⟨rfl, re_in F⟩)))
/-! branch -/
theorem sm_bF {t u : Nat} (F : re_F T L C G D B P I bb xK xI kk kb kp kn ki ka kh kd kf kg xb yb xz xu xc) (ht : t < T) (h8 : D t = 8) (hp : P t < 5) (hu : u < T) (h8u : ¬ D u = 8) {xz' : Nat → Int32} (hz : ∀ j, j < 2000 → xz' j = 127) :
    re_F T L C G D B (gh_u P t (P t + 1)) (gh_u I (5 * t + P t) u) bb 0 xI kk kb (upd kp t (nI (P t + 1))) kn (upd ki (5 * t + P t) (nI u)) ka kh kd kf kg xb yb xz' xu xc := by
  obtain ⟨⟨a1, a2, a3, a4, a5, a6, a7, a8⟩, ⟨t1, t2, t3, t4, t5, t6, t7, t8⟩, l, b, z, kz⟩ := F
  refine ⟨⟨a1, a2, a3, a4, sm_uN a5, sm_uC a6 (by omega), sm_uN a7, sm_uB a8 (by omega)⟩, ⟨t1, ?_, sm_uC t3 (by omega), t4, t5, ?_, t7, t8⟩, l, b, sm_pl hz (by omega), Or.inl rfl⟩
  · intro i hi
    rw [gh_un (by omega)]; exact t2 i hi
  · intro s k hs hk
    by_cases e : s = t
    · subst e
      rw [gh_us] at hk
      by_cases ek : k = P s
      · rw [ek, gh_us]; exact h8u
      · rw [gh_un (by omega)]; exact t6 s k hs (by omega)
    · rw [gh_un e] at hk
      have := a6 s
      rw [gh_un (by omega)]
      exact t6 s k hs hk
theorem sm_branch {k : Nat} (F : re_F T L C G D B P I bb xK xI kk kb kp kn ki ka kh kd kf kg xb yb xz xu xc) (v1 v2 : Int32) : wpX_branch (fun r u' => wpY_branch (fun r' v' => r' = r ∧ i_Rel (k + 7) u' v') (nI T, nI L, yW, nI C, nI G, yV, yD, yR, yA, yF, yO, kk, kb, kp, kf, kn, ki, ka, kg, kh, yb, yw, nu, rs, yt, ys, yc, yl, yn, yv, yo, ym, yf, tv, tt, tg, yp, yh) v1 v2) (nI T, nI L, nI C, nI G, xV, xA, xF, xD, xN, xS, xK, xI, kk, kb, kp, kn, ki, ka, kh, kd, kf, xb, nu, rs, vt, vn, va, ve, xo, xt, xp, xl, xd, xm, xz, xu, xe, xc, xf) v1 v2 := by
  unfold wpX_branch wpY_branch
  have hT : T ≤ 20 := F.2.1.1
  have hA := F.1
  rcases sm_ix v1 (n := T) (by omega) with h | ⟨t, ht, rfl⟩
  · exact sm_is_n h (br_t rfl (sn_is_n hT h (br_t rfl ⟨rfl, re_in F⟩)))
  have hvt : vp_in (nI t) 20 := vp_in_nI (by omega) (by decide)
  have hP := sc_p5 hA t
  by_cases e5 : D t = 8
  · have k5 : kk t = 8 := (sm_kind hA (by decide)).mpr e5
    refine sm_is_y hT ht k5 (br_f (by decide) (And.intro hvt ?_))
    by_cases p5 : P t = 5
    · have pe : kp (nI t).toNatClampNeg = 5 := by rw [sm_ps hA (by omega), p5]; rfl
      exact br_t pe (sn_is_y hT ht k5 (br_f (by decide) ⟨hvt, br_t pe ⟨rfl, re_in F⟩⟩))
    have pe : ¬ kp (nI t).toNatClampNeg = 5 := by rw [sm_ps hA (by omega)]; exact fun h => p5 ((ba_e5 (by omega)).mp h)
    refine br_f pe ?_
    rcases sm_ix v2 (n := T) (by omega) with h | ⟨u, hu, rfl⟩
    · exact xf_isType_n h (br_t rfl (sn_is_y hT ht k5 (br_f (by decide) ⟨hvt, br_f pe (yf_isT_n hT h (br_t rfl ⟨rfl, re_in F⟩))⟩)))
    have vu : vp_in (nI u) 20 := vp_in_nI (by omega) (by decide)
    refine xf_isType_y hT hu (br_f (by decide) ⟨vu, ?_⟩)
    by_cases e8 : D u = 8
    · have k8 : kk (nI u).toNatClampNeg = 8 := by rw [nI_clamp (by omega)]; exact (sm_kind hA (by decide)).mpr e8
      exact br_t k8 (sn_is_y hT ht k5 (br_f (by decide) ⟨hvt, br_f pe (yf_isT_y hT hu (br_f (by decide) ⟨vu, br_t k8 ⟨rfl, re_in F⟩⟩))⟩))
    · have k8 : ¬ kk (nI u).toNatClampNeg = 8 := by rw [nI_clamp (by omega)]; exact fun h => e8 ((sm_kind hA (by decide)).mp h)
      refine br_f k8 ⟨hvt, ?_⟩
      rw [sm_ps hA (by omega), ba_5, nI_add, nI_clamp (by omega)]
      refine ⟨vp_in_nI (by omega) (by decide), nm_r (e' := upd ki (5 * t + P t) (nI u)) ?_ (sm_grow (hA := ⟨hA.1, hA.2.1, hA.2.2.1, hA.2.2.2.1, hA.2.2.2.2.1, hA.2.2.2.2.2.1, sm_uN hA.2.2.2.2.2.2.1, sm_uB hA.2.2.2.2.2.2.2 (by omega)⟩) (by omega) fun xz hz => ?_)⟩
      · rw [pk_vb, ba_b (by omega)]
      · refine sn_is_y hT ht k5 (br_f (by decide) ⟨hvt, br_f pe (yf_isT_y hT hu (br_f (by decide) ⟨vu, br_f k8 ⟨hvt, ?_⟩⟩))⟩)
        rw [sm_ps hA (by omega), nI_add, nI_clamp (by omega), nI_1, nI_clamp (by omega)]
        refine ⟨vp_in_nI (by omega) (by decide), nm_e ⟨hvt, hvt, nm_e ⟨hvt, ?_⟩⟩⟩
        rw [ba_us]
        exact ⟨rfl, re_in (sm_bF F ht e5 (by omega) hu e8 hz)⟩
  · have k5 : ¬ kk t = 8 := fun h => e5 ((sm_kind hA (by decide)).mp h)
    exact sm_is_0 hT ht k5 (br_t rfl (sn_is_0 hT ht k5 (br_t rfl ⟨rfl, re_in F⟩)))
end
end
section
section
variable {xT xL xC xG xV xA xF xD xN xS xK xI yW yV yD yR yA yF yO : Int32} {kk kb kp kn ki ka kh kd kf xb vt va ve xo xt xp xl xd xm xz xu xe xc xf kg yb yw yt ys yc yl yn yo ym yf tv tt tg yp yh : Nat → Int32} {nu rs vn yv : Nat → Int64}
variable {D B P I bb : Nat → Nat} {T L C G : Nat}
/-! field -/
theorem sm_eF {t u j : Nat} {al hh v : Int32} (F : re_F T L C G D B P I bb xK xI kk kb kp kn ki ka kh kd kf kg xb yb xz xu xc) (ht : t < T) (h9 : D t = 9) (hp : P t < 5) (hu : u < T) (hj : j < 16) (h01 : hh = 0 ∨ hh = 1) {xz' : Nat → Int32} (hz : ∀ j, j < 2000 → xz' j = 127) :
    re_F T L C G D B (gh_u P t (P t + 1)) (gh_u I (5 * t + P t) u) bb 0 xI kk kb (upd kp t (nI (P t + 1))) (upd kn (5 * t + P t) (nI j)) (upd ki (5 * t + P t) (nI u)) (upd ka (5 * t + P t) al) (upd kh (5 * t + P t) hh) (upd kd (5 * t + P t) (if hh = 0 then 0 else v)) kf (upd kg (5 * t + P t) v) xb yb xz' xu xc := by
  obtain ⟨⟨a1, a2, a3, a4, a5, a6, a7, a8⟩, ⟨t1, t2, t3, t4, t5, t6, t7, t8⟩, l, b, z, kz⟩ := F
  refine ⟨⟨a1, a2, a3, a4, sm_uN a5, sm_uC a6 (by omega), sm_uN a7, sm_uB a8 (by omega)⟩, ⟨t1, ?_, sm_uC t3 (by omega), t4, t5, ?_, ?_, ?_⟩, l, b, sm_pl hz (by omega), Or.inl rfl⟩
  · intro i hi
    rw [gh_un (by omega)]; exact t2 i hi
  · intro s k hs hk
    have e : s ≠ t := fun e => by rw [e] at hs; omega
    rw [gh_un e] at hk
    have := a6 s
    rw [gh_un (by omega)]
    exact t6 s k hs hk
  · intro i
    by_cases e : i = 5 * t + P t
    · rw [e, ba_us]; exact ⟨nI_pos' (by omega), (ba_lt16 (by omega)).mpr hj⟩
    · rw [ba_un e]; exact t7 i
  · intro i
    by_cases e : i = 5 * t + P t
    · rw [e, ba_us, ba_us, ba_us]
      rcases h01 with z | z
      · rw [z]; exact Or.inl ⟨rfl, rfl⟩
      · rw [z]; exact Or.inr ⟨rfl, rfl⟩
    · rw [ba_un e, ba_un e, ba_un e]; exact t8 i
theorem sm_x49 {post : Int32 → SX → Prop} {t u j : Nat} {al hh v : Int32} (hA : sc_A D B P I kk kb kp ki) (ht : t < 20) (hP : P t < 5) (hu : u < 20) (hj : j < 16) (hal : al.toInt8.toInt32 = al) (h01 : hh = 0 ∨ hh = 1)
    (hf : sc_find P kn t (nI j) = -1)
    (K : ∀ xz : Nat → Int32, (∀ j, j < 2000 → xz j = 127) → post (nI (P t + 1)) (xT, xL, xC, xG, xV, xA, xF, xD, xN, xS, 0, xI, kk, kb, upd kp t (nI (P t + 1)), upd kn (5 * t + P t) (nI j), upd ki (5 * t + P t) (nI u), upd ka (5 * t + P t) al, upd kh (5 * t + P t) hh, upd kd (5 * t + P t) (if hh = 0 then 0 else v), kf, xb, nu, rs, vt, vn, va, ve, xo, xt, xp, xl, xd, xm, xz, xu, xe, xc, xf)) :
    (wX_field_49 post (nI t) (nI j) (nI u) al hh v xT xL xC xG xV xA xF xD xN xS xK xI kk kb kp kn ki ka kh kd kf xb nu rs vt vn va ve xo xt xp xl xd xm xz xu xe xc xf) := by
  have hvt : vp_in (nI t) 20 := vp_in_nI ht (by decide)
  have v100 : vp_in (nI (5 * t + P t)) 100 := vp_in_nI (by omega) (by decide)
  have c100 : (nI (5 * t + P t)).toNatClampNeg = 5 * t + P t := nI_clamp (by omega)
  refine xn_named hA ht ?_
  rw [hf]
  refine br_t ba_m1lt ⟨hvt, nm_r (e' := nI (5 * t + P t)) ?_ ?_⟩
  · rw [sm_ps hA ht, ba_5, nI_add]
  refine ⟨v100, nm_r (e' := upd kn (5 * t + P t) (nI j)) ?_ ⟨v100, nm_r (e' := upd ki (5 * t + P t) (nI u)) ?_ ⟨v100, nm_r (e' := upd ka (5 * t + P t) al) ?_ ⟨v100, nm_r (e' := upd kh (5 * t + P t) hh) ?_ ?_⟩⟩⟩⟩
  · rw [c100, pk_vb, ba_b (by omega)]
  · rw [c100, pk_vb, ba_b (by omega)]
  · rw [c100, pk_vb, hal]
  · rw [c100]; rcases h01 with z | z
    · rw [z, ba_vz0]
    · rw [z, ba_vz1]
  · have hA' : sc_A D B P (gh_u I (5 * t + P t) u) kk kb kp (upd ki (5 * t + P t) (nI u)) := ⟨hA.1, hA.2.1, hA.2.2.1, hA.2.2.2.1, hA.2.2.2.2.1, hA.2.2.2.2.2.1, sm_uN hA.2.2.2.2.2.2.1, sm_uB hA.2.2.2.2.2.2.2 hu⟩
    by_cases z : hh = 0
    · refine br_t z (And.intro v100 (nm_r (e' := upd kd (5 * t + P t) (if hh = 0 then 0 else v)) ?_ (sm_grow hA' ht fun xz hz => K xz hz)))
      rw [c100, if_pos z]
    · refine br_f z (And.intro v100 (nm_r (e' := upd kd (5 * t + P t) (if hh = 0 then 0 else v)) ?_ (sm_grow hA' ht fun xz hz => K xz hz)))
      rw [c100, if_neg z]
theorem sm_al {x : Int32} (h : x = -1 ∨ ∃ j : Nat, j < 16 ∧ x = nI j) : x.toInt8.toInt32 = x ∧ -1 ≤ x ∧ x ≤ 15 := by
  rcases h with rfl | ⟨j, hj, rfl⟩
  · exact ⟨ba_bm, by decide, by decide⟩
  · refine ⟨ba_b (by omega), ?_, (ba_le15 (by omega)).mpr (by omega)⟩
    rw [Int32.le_iff_toInt_le, nI_toInt (by omega)]
    have : (-1 : Int32).toInt = -1 := by decide
    omega
theorem sm_field {k : Nat} (F : re_F T L C G D B P I bb xK xI kk kb kp kn ki ka kh kd kf kg xb yb xz xu xc) (v1 v2 v3 v4 v5 v6 : Int32) (h01 : v5 = 0 ∨ v5 = 1) : wpX_field (fun r u' => wpY_field (fun r' v' => r' = r ∧ i_Rel (k + 7) u' v') (nI T, nI L, yW, nI C, nI G, yV, yD, yR, yA, yF, yO, kk, kb, kp, kf, kn, ki, ka, kg, kh, yb, yw, nu, rs, yt, ys, yc, yl, yn, yv, yo, ym, yf, tv, tt, tg, yp, yh) v1 v2 v3 v4 v5 v6) (nI T, nI L, nI C, nI G, xV, xA, xF, xD, xN, xS, xK, xI, kk, kb, kp, kn, ki, ka, kh, kd, kf, xb, nu, rs, vt, vn, va, ve, xo, xt, xp, xl, xd, xm, xz, xu, xe, xc, xf) v1 v2 v3 v4 v5 v6 := by
  unfold wpX_field wpY_field
  have hT : T ≤ 20 := F.2.1.1
  have hA := F.1
  rcases sm_ix v1 (n := T) (by omega) with h | ⟨t, ht, rfl⟩
  · exact sm_is_n h (br_t rfl (sn_is_n hT h (br_t rfl ⟨rfl, re_in F⟩)))
  have hvt : vp_in (nI t) 20 := vp_in_nI (by omega) (by decide)
  have hP := sc_p5 hA t
  by_cases e5 : D t = 9
  · have k5 : kk t = 9 := (sm_kind hA (by decide)).mpr e5
    refine sm_is_y hT ht k5 (br_f (by decide) (And.intro hvt ?_))
    by_cases p5 : P t = 5
    · have pe : kp (nI t).toNatClampNeg = 5 := by rw [sm_ps hA (by omega), p5]; rfl
      exact br_t pe (sn_is_y hT ht k5 (br_f (by decide) ⟨hvt, br_t pe ⟨rfl, re_in F⟩⟩))
    have pe : ¬ kp (nI t).toNatClampNeg = 5 := by rw [sm_ps hA (by omega)]; exact fun h => p5 ((ba_e5 (by omega)).mp h)
    refine br_f pe ?_
    rcases sm_ix v3 (n := T) (by omega) with h | ⟨u, hu, rfl⟩
    · exact xf_isType_n h (br_t rfl (sn_is_y hT ht k5 (br_f (by decide) ⟨hvt, br_f pe (yf_isT_n hT h (br_t rfl ⟨rfl, re_in F⟩))⟩)))
    refine xf_isType_y hT hu (br_f (by decide) ?_)
    rcases sm_ix v2 (n := 16) (by decide) with h | ⟨j, hj, rfl⟩
    · exact sm_name_n h (br_t rfl (sn_is_y hT ht k5 (br_f (by decide) ⟨hvt, br_f pe (yf_isT_y hT hu (br_f (by decide) (sn_name_n h (br_t rfl ⟨rfl, re_in F⟩))))⟩)))
    refine sm_name_y hj (br_f (by decide) ?_)
    by_cases hal : v4 = -1 ∨ ∃ j : Nat, j < 16 ∧ v4 = nI j
    · obtain ⟨al1, al2, al3⟩ := sm_al hal
      have S : ∀ post : Int32 → SX → Prop, (wX_field_49 post (nI t) (nI j) (nI u) v4 v5 v6 (nI T) (nI L) (nI C) (nI G) xV xA xF xD xN xS xK xI kk kb kp kn ki ka kh kd kf xb nu rs vt vn va ve xo xt xp xl xd xm xz xu xe xc xf) → (v4 = -1 → (wX_field_49 post (nI t) (nI j) (nI u) v4 v5 v6 (nI T) (nI L) (nI C) (nI G) xV xA xF xD xN xS xK xI kk kb kp kn ki ka kh kd kf xb nu rs vt vn va ve xo xt xp xl xd xm xz xu xe xc xf)) ∧ (¬ v4 = -1 → wpX_isName (fun r_182 => (r_182 = 0 → post (-1) (nI T, nI L, nI C, nI G, xV, xA, xF, xD, xN, xS, xK, xI, kk, kb, kp, kn, ki, ka, kh, kd, kf, xb, nu, rs, vt, vn, va, ve, xo, xt, xp, xl, xd, xm, xz, xu, xe, xc, xf)) ∧ (¬ r_182 = 0 → (wX_field_49 post (nI t) (nI j) (nI u) v4 v5 v6 (nI T) (nI L) (nI C) (nI G) xV xA xF xD xN xS xK xI kk kb kp kn ki ka kh kd kf xb nu rs vt vn va ve xo xt xp xl xd xm xz xu xe xc xf))) v4) := by
        intro post hh
        refine br_c (fun _ => hh) (fun n => ?_)
        obtain ⟨j', hj', e⟩ := hal.resolve_left n
        rw [e] at hh ⊢
        exact sm_name_y hj' (br_f (by decide) hh)
      refine S _ ?_
      rcases sc_find_r (P := P) (kn := kn) (t := t) (nI j) (by omega) with ⟨hf, _⟩ | ⟨f, hf1, hf, _⟩
      · refine sm_x49 hA (by omega) (by omega) (by omega) hj al1 h01 hf fun xz hz => ?_
        refine sn_is_y hT ht k5 (br_f (by decide) ⟨hvt, br_f pe (yf_isT_y hT hu (br_f (by decide) (sn_name_y hj (br_f (by decide) (yf_in_y al2 al3 (br_f (by decide) (yn_find hA (by omega) ?_)))))))⟩)
        rw [hf]
        have v100 : vp_in (nI (5 * t + P t)) 100 := vp_in_nI (by omega) (by decide)
        have c100 : (nI (5 * t + P t)).toNatClampNeg = 5 * t + P t := nI_clamp (by omega)
        have ct : (nI t).toNatClampNeg = t := nI_clamp (by omega)
        refine br_t ba_m1lt ⟨hvt, nm_r (e' := nI (5 * t + P t)) ?_ ?_⟩
        · rw [sm_ps hA (by omega), ba_5, nI_add]
        refine ⟨v100, nm_r (e' := upd kn (5 * t + P t) (nI j)) ?_ ⟨v100, nm_r (e' := upd ki (5 * t + P t) (nI u)) ?_ ⟨v100, nm_r (e' := upd ka (5 * t + P t) v4) ?_ ⟨v100, nm_r (e' := upd kh (5 * t + P t) v5) ?_ ⟨v100, nm_r (e' := upd kg (5 * t + P t) v6) ?_ ⟨hvt, hvt, nm_r (e' := upd kp t (nI (P t + 1))) ?_ ⟨hvt, ?_⟩⟩⟩⟩⟩⟩⟩
        · rw [c100]
        · rw [c100]
        · rw [c100]
        · rw [c100]; rcases h01 with z | z
          · rw [z, ba_vz0]
          · rw [z, ba_vz1]
        · rw [c100]
        · rw [ct, sc_p hA, nI_1]
        · rw [ct, ba_us]
          exact ⟨rfl, re_in (sm_eF F ht e5 (by omega) hu hj h01 hz)⟩
      · have np : ¬ nI f < 0 := nI_pos (by omega)
        refine xn_named hA (by omega) ?_
        rw [hf]
        refine br_f np (sn_is_y hT ht k5 (br_f (by decide) ⟨hvt, br_f pe (yf_isT_y hT hu (br_f (by decide) (sn_name_y hj (br_f (by decide) (yf_in_y al2 al3 (br_f (by decide) (yn_find hA (by omega) ?_)))))))⟩))
        rw [hf]
        exact br_f np ⟨rfl, re_in F⟩
    · have n1 : ¬ v4 = -1 := fun e => hal (Or.inl e)
      have h16 : v4 < 0 ∨ nI 16 ≤ v4 := by
        rcases sm_ix v4 (n := 16) (by decide) with h | h
        · exact h
        · exact absurd (Or.inr h) hal
      have lt1 : v4 < -1 ∨ 15 < v4 := by
        rcases h16 with h | h
        · refine Or.inl ?_
          rw [Int32.lt_iff_toInt_lt] at h ⊢
          have e0 : (0 : Int32).toInt = 0 := by decide
          have e1 : (-1 : Int32).toInt = -1 := by decide
          have : v4.toInt ≠ -1 := fun e => n1 (Int32.toInt_inj.mp (by rw [e, e1]))
          omega
        · exact Or.inr (sm_gt h rfl (by decide))
      exact br_f n1 (sm_name_n h16 (br_t rfl (sn_is_y hT ht k5 (br_f (by decide) ⟨hvt, br_f pe (yf_isT_y hT hu (br_f (by decide) (sn_name_y hj (br_f (by decide) (yf_in_n lt1 (br_t rfl ⟨rfl, re_in F⟩))))))⟩))))
  · have k5 : ¬ kk t = 9 := fun h => e5 ((sm_kind hA (by decide)).mp h)
    exact sm_is_0 hT ht k5 (br_t rfl (sn_is_0 hT ht k5 (br_t rfl ⟨rfl, re_in F⟩)))
/-! rows -/
theorem by_st {b : Nat} (h : by_ok xb yb bb) (i : Nat) {x y : Int32} (hx : x &&& 255 = nI b) (hy : y = nI b) (hb : b < 256) : by_ok (upd xb i x) (upd yb i y) (gh_u bb i b) := by
  intro j
  by_cases e : j = i
  · rw [e, ba_us, ba_us, gh_us]; exact ⟨hx, hy, hb⟩
  · rw [ba_un e, ba_un e, gh_un e]; exact h j
theorem by_n {b : Nat} (hb : b < 256) : (nI b).toInt8.toInt32 &&& 255 = nI b := by
  rw [bp_b, pk_andN (by omega) (m := 255) 8 (by decide), Nat.mod_eq_of_lt (by omega)]
theorem sm_add {k : Nat} (F : re_F T L C G D B P I bb xK xI kk kb kp kn ki ka kh kd kf kg xb yb xz xu xc) (v1 : Int32) : wpX_add (fun r u' => wpY_add (fun r' v' => r' = r ∧ i_Rel (k + 7) u' v') (nI T, nI L, yW, nI C, nI G, yV, yD, yR, yA, yF, yO, kk, kb, kp, kf, kn, ki, ka, kg, kh, yb, yw, nu, rs, yt, ys, yc, yl, yn, yv, yo, ym, yf, tv, tt, tg, yp, yh) v1) (nI T, nI L, nI C, nI G, xV, xA, xF, xD, xN, xS, xK, xI, kk, kb, kp, kn, ki, ka, kh, kd, kf, xb, nu, rs, vt, vn, va, ve, xo, xt, xp, xl, xd, xm, xz, xu, xe, xc, xf) v1 := by
  unfold wpY_add
  obtain ⟨hL, hC, hG⟩ := F.2.2.1
  rcases sm_ix v1 (n := 256) (by decide) with h | ⟨b, hb, rfl⟩
  · have Y : ∀ post : Int32 → Prop, post 0 → wpY_in post v1 0 255 := fun post hp => yf_in_n (h.imp id (fun z => sm_gt z rfl (by decide))) hp
    by_cases z : v1 < 0
    · exact br_t z (Y _ (br_t rfl ⟨rfl, re_in F⟩))
    · exact br_f z (br_t (sm_gt (h.resolve_left z) rfl (by decide)) (Y _ (br_t rfl ⟨rfl, re_in F⟩)))
  · have n2 : ¬ (255 : Int32) < nI b := fun h => by have := (ba_gt255 (by omega)).mp h; omega
    have Y : ∀ post : Int32 → Prop, post 1 → wpY_in post (nI b) 0 255 := fun post hp => yf_in_y (nI_pos' (by omega)) (Int32.not_lt.mp n2) hp
    refine br_f (nI_pos (by omega)) (br_f n2 ?_)
    by_cases e : L = 100
    · exact br_t (congrArg nI e) (Y _ (br_f (by decide) (br_t (congrArg nI e) ⟨rfl, re_in F⟩)))
    · have ne : ¬ nI L = 100 := fun h => e ((ba_e100 (by omega)).mp h)
      have vL : vp_in (nI L) 100 := vp_in_nI (by omega) (by decide)
      refine br_f ne (nm_r (nI_1 L) ⟨vL, nm_r (e' := upd xb L (nI b).toInt8.toInt32) ?_ (Y _ (br_f (by decide) (br_f ne ⟨vL, nm_r (e' := upd yb L (nI b)) ?_ (nm_r (nI_1 L) ⟨rfl, re_in (D := D) (B := B) (P := P) (I := I) (bb := gh_u bb L b) ?_⟩)⟩)))⟩)
      · rw [nI_clamp (by omega), pk_vb]
      · rw [nI_clamp (by omega)]
      · exact ⟨F.1, F.2.1, ⟨by omega, hC, hG⟩, by_st F.2.2.2.1 L (by_n hb) rfl hb, F.2.2.2.2⟩
theorem sm_at {k : Nat} (F : re_F T L C G D B P I bb xK xI kk kb kp kn ki ka kh kd kf kg xb yb xz xu xc) (v1 : Int32) : wpX_at (fun r => wpY_at (fun r' => r' = r ∧ i_Rel (k + 7) (nI T, nI L, nI C, nI G, xV, xA, xF, xD, xN, xS, xK, xI, kk, kb, kp, kn, ki, ka, kh, kd, kf, xb, nu, rs, vt, vn, va, ve, xo, xt, xp, xl, xd, xm, xz, xu, xe, xc, xf) (nI T, nI L, yW, nI C, nI G, yV, yD, yR, yA, yF, yO, kk, kb, kp, kf, kn, ki, ka, kg, kh, yb, yw, nu, rs, yt, ys, yc, yl, yn, yv, yo, ym, yf, tv, tt, tg, yp, yh)) (nI T, nI L, yW, nI C, nI G, yV, yD, yR, yA, yF, yO, kk, kb, kp, kf, kn, ki, ka, kg, kh, yb, yw, nu, rs, yt, ys, yc, yl, yn, yv, yo, ym, yf, tv, tt, tg, yp, yh) v1) (nI T, nI L, nI C, nI G, xV, xA, xF, xD, xN, xS, xK, xI, kk, kb, kp, kn, ki, ka, kh, kd, kf, xb, nu, rs, vt, vn, va, ve, xo, xt, xp, xl, xd, xm, xz, xu, xe, xc, xf) v1 := by
  unfold wpY_at
  obtain ⟨hL, hC, hG⟩ := F.2.2.1
  rcases sm_ix v1 (n := L) (by omega) with h | ⟨j, hj, rfl⟩
  · have Y : wpY_at (fun r' => r' = -1 ∧ i_Rel (k + 7) (nI T, nI L, nI C, nI G, xV, xA, xF, xD, xN, xS, xK, xI, kk, kb, kp, kn, ki, ka, kh, kd, kf, xb, nu, rs, vt, vn, va, ve, xo, xt, xp, xl, xd, xm, xz, xu, xe, xc, xf) (nI T, nI L, yW, nI C, nI G, yV, yD, yR, yA, yF, yO, kk, kb, kp, kf, kn, ki, ka, kg, kh, yb, yw, nu, rs, yt, ys, yc, yl, yn, yv, yo, ym, yf, tv, tt, tg, yp, yh)) (nI T, nI L, yW, nI C, nI G, yV, yD, yR, yA, yF, yO, kk, kb, kp, kf, kn, ki, ka, kg, kh, yb, yw, nu, rs, yt, ys, yc, yl, yn, yv, yo, ym, yf, tv, tt, tg, yp, yh) v1 := by
      unfold wpY_at
      refine yf_in_n ?_ (br_t rfl ⟨rfl, re_in F⟩)
      rcases h with h | h
      · exact Or.inl h
      · by_cases z : L = 0
        · subst z
          refine Or.inr ?_
          rw [Int32.lt_iff_toInt_lt]
          rw [Int32.le_iff_toInt_le] at h
          have h0 : (nI 0).toInt = 0 := by decide
          have h1 : (nI 0 - 1).toInt = -1 := by decide
          omega
        · refine Or.inr ?_
          rw [ba_s1 (by omega), Int32.lt_iff_toInt_lt, nI_toInt (by omega)]
          rw [Int32.le_iff_toInt_le, nI_toInt (by omega)] at h
          omega
    by_cases z : v1 < 0
    · exact br_t z Y
    · exact br_f z (br_t (h.resolve_left z) Y)
  · have vj : vp_in (nI j) 100 := vp_in_nI (by omega) (by decide)
    refine br_f (nI_pos (by omega)) (br_f (nI_ge hj (by omega)) ⟨vj, ?_⟩)
    refine yf_in_y (nI_pos' (by omega)) (by rw [ba_s1 (by omega)]; exact nI_le (by omega) (by omega)) (br_f (by decide) ⟨vj, ?_, re_in F⟩)
    rw [nI_clamp (by omega), (F.2.2.2.1 j).1, (F.2.2.2.1 j).2.1]
theorem sm_wipe {k : Nat} (F : re_F T L C G D B P I bb xK xI kk kb kp kn ki ka kh kd kf kg xb yb xz xu xc) (v1 : Int32) : wpX_wipe (fun r u' => wpY_wipe (fun r' v' => r' = r ∧ i_Rel (k + 7) u' v') (nI T, nI L, yW, nI C, nI G, yV, yD, yR, yA, yF, yO, kk, kb, kp, kf, kn, ki, ka, kg, kh, yb, yw, nu, rs, yt, ys, yc, yl, yn, yv, yo, ym, yf, tv, tt, tg, yp, yh) v1) (nI T, nI L, nI C, nI G, xV, xA, xF, xD, xN, xS, xK, xI, kk, kb, kp, kn, ki, ka, kh, kd, kf, xb, nu, rs, vt, vn, va, ve, xo, xt, xp, xl, xd, xm, xz, xu, xe, xc, xf) v1 := by
  obtain ⟨hL, hC, hG⟩ := F.2.2.1
  by_cases z : v1 = 0
  · exact br_t z (br_t z (br_t z (br_t z ⟨rfl, re_in (L := 0) ⟨F.1, F.2.1, ⟨by omega, hC, hG⟩, F.2.2.2⟩⟩)))
  · exact br_f z (br_f z (br_f z (br_f z ⟨rfl, re_in (C := 0) ⟨F.1, F.2.1, ⟨hL, by omega, hG⟩, F.2.2.2⟩⟩)))
theorem sm_number {k : Nat} (F : re_F T L C G D B P I bb xK xI kk kb kp kn ki ka kh kd kf kg xb yb xz xu xc) (a0 : Int64) : wpX_number (fun r u' => wpY_number (fun r' v' => r' = r ∧ i_Rel (k + 7) u' v') (nI T, nI L, yW, nI C, nI G, yV, yD, yR, yA, yF, yO, kk, kb, kp, kf, kn, ki, ka, kg, kh, yb, yw, nu, rs, yt, ys, yc, yl, yn, yv, yo, ym, yf, tv, tt, tg, yp, yh) a0) (nI T, nI L, nI C, nI G, xV, xA, xF, xD, xN, xS, xK, xI, kk, kb, kp, kn, ki, ka, kh, kd, kf, xb, nu, rs, vt, vn, va, ve, xo, xt, xp, xl, xd, xm, xz, xu, xe, xc, xf) a0 := by
  obtain ⟨hL, hC, hG⟩ := F.2.2.1
  by_cases e : C = 100
  · exact br_t (congrArg nI e) (br_t (congrArg nI e) ⟨rfl, re_in F⟩)
  · have ne : ¬ nI C = 100 := fun h => e ((ba_e100 (by omega)).mp h)
    have vC : vp_in (nI C) 100 := vp_in_nI (by omega) (by decide)
    refine br_f ne (nm_r (nI_1 C) ⟨vC, nm_e (br_f ne ⟨vC, nm_e (nm_r (nI_1 C) ⟨rfl, re_in ⟨F.1, F.2.1, ⟨hL, by omega, hG⟩, F.2.2.2⟩⟩)⟩)⟩)
theorem sm_result {k : Nat} (F : re_F T L C G D B P I bb xK xI kk kb kp kn ki ka kh kd kf kg xb yb xz xu xc) (v1 : Int32) : wpX_result (fun r => wpY_result (fun r' => r' = r ∧ i_Rel (k + 7) (nI T, nI L, nI C, nI G, xV, xA, xF, xD, xN, xS, xK, xI, kk, kb, kp, kn, ki, ka, kh, kd, kf, xb, nu, rs, vt, vn, va, ve, xo, xt, xp, xl, xd, xm, xz, xu, xe, xc, xf) (nI T, nI L, yW, nI C, nI G, yV, yD, yR, yA, yF, yO, kk, kb, kp, kf, kn, ki, ka, kg, kh, yb, yw, nu, rs, yt, ys, yc, yl, yn, yv, yo, ym, yf, tv, tt, tg, yp, yh)) (nI T, nI L, yW, nI C, nI G, yV, yD, yR, yA, yF, yO, kk, kb, kp, kf, kn, ki, ka, kg, kh, yb, yw, nu, rs, yt, ys, yc, yl, yn, yv, yo, ym, yf, tv, tt, tg, yp, yh) v1) (nI T, nI L, nI C, nI G, xV, xA, xF, xD, xN, xS, xK, xI, kk, kb, kp, kn, ki, ka, kh, kd, kf, xb, nu, rs, vt, vn, va, ve, xo, xt, xp, xl, xd, xm, xz, xu, xe, xc, xf) v1 := by
  obtain ⟨hL, hC, hG⟩ := F.2.2.1
  by_cases m : v1 = -1
  · exact br_t m (br_t m ⟨rfl, re_in F⟩)
  refine br_f m ?_
  rcases sm_ix v1 (n := G) (by omega) with h | ⟨j, hj, rfl⟩
  · have Y : wpY_result (fun r' => r' = -1 ∧ i_Rel (k + 7) (nI T, nI L, nI C, nI G, xV, xA, xF, xD, xN, xS, xK, xI, kk, kb, kp, kn, ki, ka, kh, kd, kf, xb, nu, rs, vt, vn, va, ve, xo, xt, xp, xl, xd, xm, xz, xu, xe, xc, xf) (nI T, nI L, yW, nI C, nI G, yV, yD, yR, yA, yF, yO, kk, kb, kp, kf, kn, ki, ka, kg, kh, yb, yw, nu, rs, yt, ys, yc, yl, yn, yv, yo, ym, yf, tv, tt, tg, yp, yh)) (nI T, nI L, yW, nI C, nI G, yV, yD, yR, yA, yF, yO, kk, kb, kp, kf, kn, ki, ka, kg, kh, yb, yw, nu, rs, yt, ys, yc, yl, yn, yv, yo, ym, yf, tv, tt, tg, yp, yh) v1 := by
      refine br_f m (yf_in_n ?_ (br_t rfl ⟨rfl, re_in F⟩))
      rcases h with h | h
      · exact Or.inl h
      · by_cases z : G = 0
        · subst z
          refine Or.inr ?_
          rw [Int32.lt_iff_toInt_lt]
          rw [Int32.le_iff_toInt_le] at h
          have h0 : (nI 0).toInt = 0 := by decide
          have h1 : (nI 0 - 1).toInt = -1 := by decide
          omega
        · refine Or.inr ?_
          rw [ba_s1 (by omega), Int32.lt_iff_toInt_lt, nI_toInt (by omega)]
          rw [Int32.le_iff_toInt_le, nI_toInt (by omega)] at h
          omega
    by_cases z : v1 < 0
    · exact br_t z Y
    · exact br_f z (br_t (h.resolve_left z) Y)
  · have vj : vp_in (nI j) 150 := vp_in_nI (by omega) (by decide)
    refine br_f (nI_pos (by omega)) (br_f (nI_ge hj (by omega)) ⟨vj, br_f m ?_⟩)
    exact yf_in_y (nI_pos' (by omega)) (by rw [ba_s1 (by omega)]; exact nI_le (by omega) (by omega)) (br_f (by decide) ⟨vj, rfl, re_in F⟩)
end
end
section
section
variable {xT xL xC xG xV xA xF xD xN xS xK xI yW yV yD yR yA yF yO : Int32} {kk kb kp kn ki ka kh kd kf xb vt va ve xo xt xp xl xd xm xz xu xe xc xf kg yb yw yt ys yc yl yn yo ym yf tv tt tg yp yh : Nat → Int32} {nu rs vn yv : Nat → Int64}
variable {D B P I bb : Nat → Nat} {T L C G p : Nat}
/-! a long is read: both sides alike -/
def lo_z (u : Int64) : Int64 := ((u.toUInt64 >>> ((1 : Int32).toInt64.toUInt64 &&& Int64.toUInt64 63)).toInt64) ^^^ (-(u &&& 1))
def lo_u (u : Int64) (b k : Nat) : Int64 := u ||| (((nI b &&& 127).toInt64) <<< ((nI (7 * k)).toInt64 &&& 63))
theorem lo_7 (k : Nat) : nI (7 * k) + 7 = nI (7 * (k + 1)) := by rw [ba_p7]; rfl
theorem lo_x0 {post : Int64 → SX → Prop} {n : Nat} {u : Int64} {x3 : Int32} (h : post (lo_z u) (xT, xL, xC, xG, xV, xA, xF, xD, xN, xS, xK, xI, kk, kb, kp, kn, ki, ka, kh, kd, kf, xb, nu, rs, vt, vn, va, ve, xo, xt, xp, xl, xd, xm, xz, xu, xe, xc, xf)) : (wX_nextLong_7 post (n + 1) u x3 0 xT xL xC xG xV xA xF xD xN xS xK xI kk kb kp kn ki ka kh kd kf xb nu rs vt vn va ve xo xt xp xl xd xm xz xu xe xc xf) := br_t rfl h
theorem lo_x1 {post : Int64 → SX → Prop} {n : Nat} {u : Int64} {x3 : Int32} (hf : ¬ xF = 0) (h : post (lo_z u) (xT, xL, xC, xG, xV, xA, xF, xD, xN, xS, xK, xI, kk, kb, kp, kn, ki, ka, kh, kd, kf, xb, nu, rs, vt, vn, va, ve, xo, xt, xp, xl, xd, xm, xz, xu, xe, xc, xf)) : (wX_nextLong_7 post (n + 1) u x3 1 xT xL xC xG xV xA xF xD xN xS xK xI kk kb kp kn ki ka kh kd kf xb nu rs vt vn va ve xo xt xp xl xd xm xz xu xe xc xf) := br_f (by decide) (br_f hf h)
theorem lo_xs {post : Int64 → SX → Prop} {n k : Nat} {u : Int64} (h : post (lo_z (lo_u u 0 k)) (xT, nI L, xC, xG, xV, nI L, -2, xD, xN, xS, xK, xI, kk, kb, kp, kn, ki, ka, kh, kd, kf, xb, nu, rs, vt, vn, va, ve, xo, xt, xp, xl, xd, xm, xz, xu, xe, xc, xf)) : (wX_nextLong_7 post (n + 2) u (nI (7 * k)) 1 xT (nI L) xC xG xV (nI L) 0 xD xN xS xK xI kk kb kp kn ki ka kh kd kf xb nu rs vt vn va ve xo xt xp xl xd xm xz xu xe xc xf) := by
  have J : (wX_nextLong_43 post (wX_nextLong_7 post (n + 1)) u (nI (7 * k)) 0 xT (nI L) xC xG xV (nI L) (-2) xD xN xS xK xI kk kb kp kn ki ka kh kd kf xb nu rs vt vn va ve xo xt xp xl xd xm xz xu xe xc xf) :=
    nm_r (e' := lo_u u 0 k) rfl (br_t (by decide) (nm_r (lo_7 k) (lo_x0 h)))
  exact br_f (by decide) (br_t rfl (xf_nb_s (br_c (fun _ => br_t (by decide) J) (fun _ => J))))
theorem lo_xe {post : Int64 → SX → Prop} {n k b : Nat} {u : Int64} (hp : p < L) (hL : L ≤ 100) (hb : xb p &&& 255 = nI b) (hk : k ≤ 9) (h1 : b ≤ 127) (h2 : k = 9 → b ≤ 1) (h : post (lo_z (lo_u u b k)) (xT, nI L, xC, xG, xV, nI (p + 1), 0, xD, xN, xS, xK, xI, kk, kb, kp, kn, ki, ka, kh, kd, kf, xb, nu, rs, vt, vn, va, ve, xo, xt, xp, xl, xd, xm, xz, xu, xe, xc, xf)) : (wX_nextLong_7 post (n + 2) u (nI (7 * k)) 1 xT (nI L) xC xG xV (nI p) 0 xD xN xS xK xI kk kb kp kn ki ka kh kd kf xb nu rs vt vn va ve xo xt xp xl xd xm xz xu xe xc xf) := by
  have J : (wX_nextLong_43 post (wX_nextLong_7 post (n + 1)) u (nI (7 * k)) (nI b) xT (nI L) xC xG xV (nI (p + 1)) 0 xD xN xS xK xI kk kb kp kn ki ka kh kd kf xb nu rs vt vn va ve xo xt xp xl xd xm xz xu xe xc xf) :=
    nm_r (e' := lo_u u b k) rfl (br_t ((ba_le127 (by omega)).mpr h1) (nm_r (lo_7 k) (lo_x0 h)))
  refine br_f (by decide) (br_t rfl (xf_nb hp hL hb (br_c (fun e => br_t ?_ J) (fun _ => J))))
  have := (ba_e63 (by omega)).mp e
  exact (ba_le1 (by omega)).mpr (h2 (by omega))
theorem lo_xb {post : Int64 → SX → Prop} {n b : Nat} {u : Int64} (hp : p < L) (hL : L ≤ 100) (hb : xb p &&& 255 = nI b) (h1 : 1 < b) (h2 : b < 256) (h : post (lo_z (lo_u u b 9)) (xT, nI L, xC, xG, xV, nI (p + 1), -3, xD, xN, xS, xK, xI, kk, kb, kp, kn, ki, ka, kh, kd, kf, xb, nu, rs, vt, vn, va, ve, xo, xt, xp, xl, xd, xm, xz, xu, xe, xc, xf)) : (wX_nextLong_7 post (n + 2) u (nI (7 * 9)) 1 xT (nI L) xC xG xV (nI p) 0 xD xN xS xK xI kk kb kp kn ki ka kh kd kf xb nu rs vt vn va ve xo xt xp xl xd xm xz xu xe xc xf) := by
  have J : (wX_nextLong_43 post (wX_nextLong_7 post (n + 1)) u (nI (7 * 9)) (nI b) xT (nI L) xC xG xV (nI (p + 1)) (-3) xD xN xS xK xI kk kb kp kn ki ka kh kd kf xb nu rs vt vn va ve xo xt xp xl xd xm xz xu xe xc xf) :=
    nm_r (e' := lo_u u b 9) rfl (br_c (fun _ => nm_r (lo_7 9) (lo_x0 h)) (fun _ => nm_r (lo_7 9) (lo_x1 (by decide) h)))
  exact br_f (by decide) (br_t rfl (xf_nb hp hL hb (br_t rfl (br_f (fun e => by have := (ba_le1 (by omega)).mp e; omega) (xf_fail J)))))
theorem lo_xc {post : Int64 → SX → Prop} {n k b : Nat} {u : Int64} (hp : p < L) (hL : L ≤ 100) (hb : xb p &&& 255 = nI b) (hk : k < 9) (h1 : 127 < b) (h2 : b < 256) (h : (wX_nextLong_7 post (n + 1) (lo_u u b k) (nI (7 * (k + 1))) 1 xT (nI L) xC xG xV (nI (p + 1)) 0 xD xN xS xK xI kk kb kp kn ki ka kh kd kf xb nu rs vt vn va ve xo xt xp xl xd xm xz xu xe xc xf)) : (wX_nextLong_7 post (n + 2) u (nI (7 * k)) 1 xT (nI L) xC xG xV (nI p) 0 xD xN xS xK xI kk kb kp kn ki ka kh kd kf xb nu rs vt vn va ve xo xt xp xl xd xm xz xu xe xc xf) := by
  have J : (wX_nextLong_43 post (wX_nextLong_7 post (n + 1)) u (nI (7 * k)) (nI b) xT (nI L) xC xG xV (nI (p + 1)) 0 xD xN xS xK xI kk kb kp kn ki ka kh kd kf xb nu rs vt vn va ve xo xt xp xl xd xm xz xu xe xc xf) :=
    nm_r (e' := lo_u u b k) rfl (br_f (fun e => by have := (ba_le127 (by omega)).mp e; omega) (nm_r (lo_7 k) h))
  exact br_f (by decide) (br_t rfl (xf_nb hp hL hb (br_f (fun e => by have := (ba_e63 (by omega)).mp e; omega) J)))
theorem lo_yu {u : Int64} {b k : Nat} : u ||| (((nI b &&& 127).toInt64) <<< ((7 * nI k).toInt64 &&& 63)) = lo_u u b k := by rw [ba_7]; rfl
theorem lo_ys {post : Int64 → SY → Prop} {n k : Nat} {u : Int64} (hk : k ≤ 9) (h : post (lo_z (lo_u u 0 k)) (xT, nI L, yW, xC, xG, yV, yD, yR, nI L, -2, yO, kk, kb, kp, kf, kn, ki, ka, kg, kh, yb, yw, nu, rs, yt, ys, yc, yl, yn, yv, yo, ym, yf, tv, tt, tg, yp, yh)) : (wY_takeLong_4 post (n + 1) u (nI k) xT (nI L) yW xC xG yV yD yR (nI L) 0 yO kk kb kp kf kn ki ka kg kh yb yw nu rs yt ys yc yl yn yv yo ym yf tv tt tg yp yh) := by
  refine br_f (fun e => ?_) (br_t rfl (yf_take_s (br_f (by decide) (nm_r (e' := lo_u u 0 k) (lo_yu (b := 0)) (br_f (by decide) h)))))
  have := (ba_ge10 (by omega)).mp e; omega
theorem lo_ye {post : Int64 → SY → Prop} {n k b : Nat} {u : Int64} (hp : p < L) (hL : L ≤ 100) (hb : yb p = nI b) (hk : k ≤ 9) (h1 : b ≤ 127) (h2 : k = 9 → b ≤ 1) (h : post (lo_z (lo_u u b k)) (xT, nI L, yW, xC, xG, yV, yD, yR, nI (p + 1), 0, yO, kk, kb, kp, kf, kn, ki, ka, kg, kh, yb, yw, nu, rs, yt, ys, yc, yl, yn, yv, yo, ym, yf, tv, tt, tg, yp, yh)) : (wY_takeLong_4 post (n + 1) u (nI k) xT (nI L) yW xC xG yV yD yR (nI p) 0 yO kk kb kp kf kn ki ka kg kh yb yw nu rs yt ys yc yl yn yv yo ym yf tv tt tg yp yh) := by
  have J : (wY_takeLong_48 post (wY_takeLong_4 post n) u (nI k) (nI b) xT (nI L) yW xC xG yV yD yR (nI (p + 1)) 0 yO kk kb kp kf kn ki ka kg kh yb yw nu rs yt ys yc yl yn yv yo ym yf tv tt tg yp yh) :=
    nm_r (e' := lo_u u b k) lo_yu (br_f (fun e => by have := (ba_ge128 (by omega)).mp e; omega) h)
  refine br_f (fun e => ?_) (br_t rfl (yf_take hp hL hb (br_t rfl (br_c (fun e => br_t ?_ J) (fun _ => J)))))
  · have := (ba_ge10 (by omega)).mp e; omega
  · have := (ba_e9 (by omega)).mp e
    exact (ba_le1 (by omega)).mpr (h2 (by omega))
theorem lo_yb {post : Int64 → SY → Prop} {n b : Nat} {u : Int64} (hp : p < L) (hL : L ≤ 100) (hb : yb p = nI b) (h1 : 1 < b) (h2 : b < 256) (h : post (lo_z (lo_u u b 9)) (xT, nI L, yW, xC, xG, yV, yD, yR, nI (p + 1), -3, yO, kk, kb, kp, kf, kn, ki, ka, kg, kh, yb, yw, nu, rs, yt, ys, yc, yl, yn, yv, yo, ym, yf, tv, tt, tg, yp, yh)) : (wY_takeLong_4 post (n + 2) u (nI 9) xT (nI L) yW xC xG yV yD yR (nI p) 0 yO kk kb kp kf kn ki ka kg kh yb yw nu rs yt ys yc yl yn yv yo ym yf tv tt tg yp yh) := by
  have J : (wY_takeLong_48 post (wY_takeLong_4 post (n + 1)) u (nI 9) (nI b) xT (nI L) yW xC xG yV yD yR (nI (p + 1)) (-3) yO kk kb kp kf kn ki ka kg kh yb yw nu rs yt ys yc yl yn yv yo ym yf tv tt tg yp yh) :=
    nm_r (e' := lo_u u b 9) lo_yu (br_c (fun _ => nm_r (nI_1 9) (br_t (by decide) h)) (fun _ => h))
  exact br_f (by decide) (br_t rfl (yf_take hp hL hb (br_t rfl (br_t rfl (br_f (fun e => by have := (ba_le1 (by omega)).mp e; omega) J)))))
theorem lo_yc {post : Int64 → SY → Prop} {n k b : Nat} {u : Int64} (hp : p < L) (hL : L ≤ 100) (hb : yb p = nI b) (hk : k < 9) (h1 : 127 < b) (h2 : b < 256) (h : (wY_takeLong_4 post n (lo_u u b k) (nI (k + 1)) xT (nI L) yW xC xG yV yD yR (nI (p + 1)) 0 yO kk kb kp kf kn ki ka kg kh yb yw nu rs yt ys yc yl yn yv yo ym yf tv tt tg yp yh)) : (wY_takeLong_4 post (n + 1) u (nI k) xT (nI L) yW xC xG yV yD yR (nI p) 0 yO kk kb kp kf kn ki ka kg kh yb yw nu rs yt ys yc yl yn yv yo ym yf tv tt tg yp yh) := by
  have J : (wY_takeLong_48 post (wY_takeLong_4 post n) u (nI k) (nI b) xT (nI L) yW xC xG yV yD yR (nI (p + 1)) 0 yO kk kb kp kf kn ki ka kg kh yb yw nu rs yt ys yc yl yn yv yo ym yf tv tt tg yp yh) :=
    nm_r (e' := lo_u u b k) lo_yu (br_t ((ba_ge128 (by omega)).mpr (by omega)) (nm_r (nI_1 k) h))
  refine br_f (fun e => ?_) (br_t rfl (yf_take hp hL hb (br_t rfl (br_f (fun e => ?_) J))))
  · have := (ba_ge10 (by omega)).mp e; omega
  · have := (ba_e9 (by omega)).mp e; omega
/-- X reads a long: from p with w, to p', with the fault f -/
def lo_X (xb : Nat → Int32) (L p : Nat) (w : Int64) (p' : Nat) (f : Int32) : Prop :=
  ∀ (xT xC xG xV xD xN xS xK xI : Int32) (kk kb kp kn ki ka kh kd kf vt va ve xo xt xp xl xd xm xz xu xe xc xf : Nat → Int32) (nu rs vn : Nat → Int64), ∀ post : Int64 → SX → Prop, post w (xT, nI L, xC, xG, xV, nI p', f, xD, xN, xS, xK, xI, kk, kb, kp, kn, ki, ka, kh, kd, kf, xb, nu, rs, vt, vn, va, ve, xo, xt, xp, xl, xd, xm, xz, xu, xe, xc, xf) → (wpX_nextLong post (xT, nI L, xC, xG, xV, nI p, 0, xD, xN, xS, xK, xI, kk, kb, kp, kn, ki, ka, kh, kd, kf, xb, nu, rs, vt, vn, va, ve, xo, xt, xp, xl, xd, xm, xz, xu, xe, xc, xf))
def lo_Y (yb : Nat → Int32) (L p : Nat) (w : Int64) (p' : Nat) (f : Int32) : Prop :=
  ∀ (xT yW xC xG yV yD yR yO : Int32) (kk kb kp kf kn ki ka kg kh yw yt ys yc yl yn yo ym yf tv tt tg yp yh : Nat → Int32) (nu rs yv : Nat → Int64), ∀ post : Int64 → SY → Prop, post w (xT, nI L, yW, xC, xG, yV, yD, yR, nI p', f, yO, kk, kb, kp, kf, kn, ki, ka, kg, kh, yb, yw, nu, rs, yt, ys, yc, yl, yn, yv, yo, ym, yf, tv, tt, tg, yp, yh) → (wpY_takeLong post (xT, nI L, yW, xC, xG, yV, yD, yR, nI p, 0, yO, kk, kb, kp, kf, kn, ki, ka, kg, kh, yb, yw, nu, rs, yt, ys, yc, yl, yn, yv, yo, ym, yf, tv, tt, tg, yp, yh))
theorem lo_Xe {w : Int64} {p' : Nat} {f : Int32} (h : lo_X xb L p w p' f) {post : Int64 → SX → Prop} (k : post w (xT, nI L, xC, xG, xV, nI p', f, xD, xN, xS, xK, xI, kk, kb, kp, kn, ki, ka, kh, kd, kf, xb, nu, rs, vt, vn, va, ve, xo, xt, xp, xl, xd, xm, xz, xu, xe, xc, xf)) : (wpX_nextLong post (xT, nI L, xC, xG, xV, nI p, 0, xD, xN, xS, xK, xI, kk, kb, kp, kn, ki, ka, kh, kd, kf, xb, nu, rs, vt, vn, va, ve, xo, xt, xp, xl, xd, xm, xz, xu, xe, xc, xf)) := by
  apply h; exact k
theorem lo_Ye {w : Int64} {p' : Nat} {f : Int32} (h : lo_Y yb L p w p' f) {post : Int64 → SY → Prop} (k : post w (xT, nI L, yW, xC, xG, yV, yD, yR, nI p', f, yO, kk, kb, kp, kf, kn, ki, ka, kg, kh, yb, yw, nu, rs, yt, ys, yc, yl, yn, yv, yo, ym, yf, tv, tt, tg, yp, yh)) : (wpY_takeLong post (xT, nI L, yW, xC, xG, yV, yD, yR, nI p, 0, yO, kk, kb, kp, kf, kn, ki, ka, kg, kh, yb, yw, nu, rs, yt, ys, yc, yl, yn, yv, yo, ym, yf, tv, tt, tg, yp, yh)) := by
  apply h; exact k
theorem lo_loop (hB : by_ok xb yb bb) (hL : L ≤ 100) : ∀ (m k p : Nat) (u : Int64), k + m = 9 → p ≤ L → ∃ (w : Int64) (p' : Nat) (f : Int32), p ≤ p' ∧ p' ≤ L ∧ (f = 0 → p < p')
    ∧ (∀ (xT xC xG xV xD xN xS xK xI : Int32) (kk kb kp kn ki ka kh kd kf vt va ve xo xt xp xl xd xm xz xu xe xc xf : Nat → Int32) (nu rs vn : Nat → Int64), ∀ (post : Int64 → SX → Prop) (n : Nat), post w (xT, nI L, xC, xG, xV, nI p', f, xD, xN, xS, xK, xI, kk, kb, kp, kn, ki, ka, kh, kd, kf, xb, nu, rs, vt, vn, va, ve, xo, xt, xp, xl, xd, xm, xz, xu, xe, xc, xf) → (wX_nextLong_7 post (n + m + 2) u (nI (7 * k)) 1 xT (nI L) xC xG xV (nI p) 0 xD xN xS xK xI kk kb kp kn ki ka kh kd kf xb nu rs vt vn va ve xo xt xp xl xd xm xz xu xe xc xf))
    ∧ (∀ (xT yW xC xG yV yD yR yO : Int32) (kk kb kp kf kn ki ka kg kh yw yt ys yc yl yn yo ym yf tv tt tg yp yh : Nat → Int32) (nu rs yv : Nat → Int64), ∀ (post : Int64 → SY → Prop) (n : Nat), post w (xT, nI L, yW, xC, xG, yV, yD, yR, nI p', f, yO, kk, kb, kp, kf, kn, ki, ka, kg, kh, yb, yw, nu, rs, yt, ys, yc, yl, yn, yv, yo, ym, yf, tv, tt, tg, yp, yh) → (wY_takeLong_4 post (n + m + 2) u (nI k) xT (nI L) yW xC xG yV yD yR (nI p) 0 yO kk kb kp kf kn ki ka kg kh yb yw nu rs yt ys yc yl yn yv yo ym yf tv tt tg yp yh)) := by
  intro m
  induction m with
  | zero =>
    intro k p u hk hp
    obtain rfl : k = 9 := by omega
    rcases Nat.lt_or_ge p L with z | z
    · obtain ⟨b1, b2, b3⟩ := hB p
      by_cases hb : bb p ≤ 1
      · refine ⟨lo_z (lo_u u (bb p) 9), p + 1, 0, by omega, by omega, fun _ => by omega, ?_, ?_⟩
        · intros; apply lo_xe z hL b1 (by omega) (by omega) (fun _ => hb); assumption
        · intros; apply lo_ye z hL b2 (by omega) (by omega) (fun _ => hb); assumption
      · refine ⟨lo_z (lo_u u (bb p) 9), p + 1, -3, by omega, by omega, fun _ => by omega, ?_, ?_⟩
        · intros; apply lo_xb z hL b1 (by omega) (by omega); assumption
        · intros; apply lo_yb z hL b2 (by omega) (by omega); assumption
    · obtain rfl : p = L := by omega
      refine ⟨lo_z (lo_u u 0 9), p, -2, by omega, by omega, fun h => absurd h (by decide), ?_, ?_⟩
      · intros; apply lo_xs; assumption
      · intros; apply lo_ys (by omega); assumption
  | succ m ih =>
    intro k p u hk hp
    rcases Nat.lt_or_ge p L with z | z
    · obtain ⟨b1, b2, b3⟩ := hB p
      by_cases hb : bb p ≤ 127
      · refine ⟨lo_z (lo_u u (bb p) k), p + 1, 0, by omega, by omega, fun _ => by omega, ?_, ?_⟩
        · intros; apply lo_xe z hL b1 (by omega) (by omega) (fun _ => by omega); assumption
        · intros; apply lo_ye z hL b2 (by omega) (by omega) (fun _ => by omega); assumption
      · obtain ⟨w, p', f, h1, h2, h3, hX, hY⟩ := ih (k + 1) (p + 1) (lo_u u (bb p) k) (by omega) (by omega)
        refine ⟨w, p', f, by omega, h2, fun _ => by omega, ?_, ?_⟩
        · intros
          rename_i n h
          refine lo_xc (n := n + m + 1) z hL b1 (by omega) (by omega) b3 ?_
          apply hX; exact h
        · intros
          rename_i n h
          refine lo_yc (n := n + m + 2) z hL b2 (by omega) (by omega) b3 ?_
          apply hY; exact h
    · obtain rfl : p = L := by omega
      refine ⟨lo_z (lo_u u 0 k), p, -2, by omega, by omega, fun h => absurd h (by decide), ?_, ?_⟩
      · intros; apply lo_xs; assumption
      · intros; apply lo_ys (by omega); assumption
theorem lo_long (hB : by_ok xb yb bb) (hL : L ≤ 100) (hp : p ≤ L) : ∃ (w : Int64) (p' : Nat) (f : Int32), p ≤ p' ∧ p' ≤ L ∧ (f = 0 → p < p') ∧ lo_X xb L p w p' f ∧ lo_Y yb L p w p' f := by
  obtain ⟨w, p', f, h1, h2, h3, hX, hY⟩ := lo_loop hB hL 9 0 p 0 (by omega) hp
  refine ⟨w, p', f, h1, h2, h3, ?_, ?_⟩
  · unfold lo_X; intros; refine Exists.intro 11 ?_; apply hX (n := 0); assumption
  · unfold lo_Y; intros; refine Exists.intro 11 ?_; apply hY (n := 0); assumption
end
end
section
section
variable {xT xL xC xG xV xA xF xD xN xS xK xI yW yV yD yR yA yF yO : Int32} {kk kb kp kn ki ka kh kd kf xb vt va ve xo xt xp xl xd xm xz xu xe xc xf kg yb yw yt ys yc yl yn yo ym yf tv tt tg yp yh : Nat → Int32} {nu rs vn yv : Nat → Int64}
variable {D B P I bb : Nat → Nat} {T L N d p t : Nat}
/-! a value begins: its head -/
/-- what the head gives -/
def bg_H (D P : Nat → Nat) (t : Nat) (w : Int64) : Prop :=
  (D t = 4 → ∃ m, m ≤ 20 ∧ w = lN m) ∧ (D t = 5 ∨ D t = 8 → ∃ m, m < P t ∧ w = lN m) ∧ (D t = 0 ∨ D t = 6 ∨ D t = 7 ∨ D t = 9 → w = 0)
/-- the kinds with a number of their own -/
def bg_K (c : Nat) : Prop := c = 1 ∨ c = 2 ∨ c = 3 ∨ c = 4 ∨ c = 5 ∨ c = 8
theorem bg_lI (x : Int64) : (x = x.toInt32.toInt64) ↔ (¬ x < -2147483648 ∧ x ≤ 2147483647) := by
  rw [Int64.lt_iff_toInt_lt, Int64.le_iff_toInt_le, ← Int64.toInt_inj, Int32.toInt_toInt64, Int64.toInt_toInt32]
  have e1 : (-2147483648 : Int64).toInt = -2147483648 := by decide
  have e2 : (2147483647 : Int64).toInt = 2147483647 := by decide
  rw [e1, e2]
  constructor
  · intro h
    have a := Int.le_bmod (x := x.toInt) (m := 2 ^ 32) (by decide)
    have b := Int.bmod_lt (x := x.toInt) (m := 2 ^ 32) (by decide)
    omega
  · intro h
    exact (Int.bmod_eq_of_le (by omega) (by omega)).symm
theorem bg_lR (x : Int64) {m : Nat} (hm : m < 2 ^ 31) : (x < 0 ∨ ¬ x < lN m) ∨ ∃ j, j < m ∧ x = lN j := by
  by_cases z : x < 0
  · exact Or.inl (Or.inl z)
  · obtain ⟨k, hk, rfl⟩ := pk_lOf z
    by_cases e : k < m
    · exact Or.inr ⟨k, e, rfl⟩
    · exact Or.inl (Or.inr (fun h => e ((pk_lLT hk (by omega)).mp h)))
theorem bg_hn (hA : sc_A D B P I kk kb kp ki) (ht : t < 20) (hk : D t = 0 ∨ D t = 6 ∨ D t = 7 ∨ D t = 9) {post : Int64 → SX → Prop} (h : post 0 (xT, xL, xC, xG, xV, xA, xF, xD, xN, xS, xK, xI, kk, kb, kp, kn, ki, ka, kh, kd, kf, xb, nu, rs, vt, vn, va, ve, xo, xt, xp, xl, xd, xm, xz, xu, xe, xc, xf)) : (wpX_head post (xT, xL, xC, xG, xV, xA, xF, xD, xN, xS, xK, xI, kk, kb, kp, kn, ki, ka, kh, kd, kf, xb, nu, rs, vt, vn, va, ve, xo, xt, xp, xl, xd, xm, xz, xu, xe, xc, xf) (nI t)) := by
  refine And.intro (vp_in_nI ht (by decide)) (nm_r (e' := nI (D t)) (by rw [nI_clamp (by omega), sc_k hA]) ?_)
  rcases hk with e | e | e | e <;> rw [e]
  · exact br_f (by decide) (br_f (by decide) (br_t rfl h))
  · exact br_f (by decide) (br_f (by decide) (br_f (by decide) (br_f (by decide) (br_f (by decide) (br_f (by decide) (br_f (by decide) (br_f (by decide) (br_t rfl h))))))))
  · exact br_f (by decide) (br_f (by decide) (br_f (by decide) (br_f (by decide) (br_f (by decide) (br_f (by decide) (br_f (by decide) (br_f (by decide) (br_f (by decide) (br_t rfl h)))))))))
  · exact br_f (by decide) (br_f (by decide) (br_f (by decide) (br_f (by decide) (br_f (by decide) (br_f (by decide) (br_f (by decide) (br_f (by decide) (br_f (by decide) (br_f (by decide) (br_f (by decide) (br_t rfl h)))))))))))
theorem bg_h1 (hA : sc_A D B P I kk kb kp ki) (ht : t < 20) (hk : D t = 1) {post : Int64 → SX → Prop} (h : wpX_nextByte (fun r_135 u => match u with | (xT, xL, xC, xG, xV, xA, xF, xD, xN, xS, xK, xI, kk, kb, kp, kn, ki, ka, kh, kd, kf, xb, nu, rs, vt, vn, va, ve, xo, xt, xp, xl, xd, xm, xz, xu, xe, xc, xf) => (wpX_within (fun r_175 u => match u with | (xT, xL, xC, xG, xV, xA, xF, xD, xN, xS, xK, xI, kk, kb, kp, kn, ki, ka, kh, kd, kf, xb, nu, rs, vt, vn, va, ve, xo, xt, xp, xl, xd, xm, xz, xu, xe, xc, xf) => (post r_175 (xT, xL, xC, xG, xV, xA, xF, xD, xN, xS, xK, xI, kk, kb, kp, kn, ki, ka, kh, kd, kf, xb, nu, rs, vt, vn, va, ve, xo, xt, xp, xl, xd, xm, xz, xu, xe, xc, xf))) (xT, xL, xC, xG, xV, xA, xF, xD, xN, xS, xK, xI, kk, kb, kp, kn, ki, ka, kh, kd, kf, xb, nu, rs, vt, vn, va, ve, xo, xt, xp, xl, xd, xm, xz, xu, xe, xc, xf) r_135.toInt64 0 1)) (xT, xL, xC, xG, xV, xA, xF, xD, xN, xS, xK, xI, kk, kb, kp, kn, ki, ka, kh, kd, kf, xb, nu, rs, vt, vn, va, ve, xo, xt, xp, xl, xd, xm, xz, xu, xe, xc, xf)) : (wpX_head post (xT, xL, xC, xG, xV, xA, xF, xD, xN, xS, xK, xI, kk, kb, kp, kn, ki, ka, kh, kd, kf, xb, nu, rs, vt, vn, va, ve, xo, xt, xp, xl, xd, xm, xz, xu, xe, xc, xf) (nI t)) := by
  refine And.intro (vp_in_nI ht (by decide)) (nm_r (e' := nI (D t)) (by rw [nI_clamp (by omega), sc_k hA]) ?_)
  rw [hk]
  exact br_f (by decide) (br_f (by decide) (br_f (by decide) (br_t rfl h)))
theorem bg_hl (hA : sc_A D B P I kk kb kp ki) (ht : t < 20) (hk : D t = 2 ∨ D t = 3 ∨ D t = 4 ∨ D t = 5 ∨ D t = 8) {post : Int64 → SX → Prop} (h : (wX_head_76 post (nI t) xT xL xC xG xV xA xF xD xN xS xK xI kk kb kp kn ki ka kh kd kf xb nu rs vt vn va ve xo xt xp xl xd xm xz xu xe xc xf)) : (wpX_head post (xT, xL, xC, xG, xV, xA, xF, xD, xN, xS, xK, xI, kk, kb, kp, kn, ki, ka, kh, kd, kf, xb, nu, rs, vt, vn, va, ve, xo, xt, xp, xl, xd, xm, xz, xu, xe, xc, xf) (nI t)) := by
  refine And.intro (vp_in_nI ht (by decide)) (nm_r (e' := nI (D t)) (by rw [nI_clamp (by omega), sc_k hA]) ?_)
  rcases hk with e | e | e | e | e <;> rw [e]
  · exact br_f (by decide) (br_f (by decide) (br_f (by decide) (br_f (by decide) (br_t rfl h))))
  · exact br_f (by decide) (br_f (by decide) (br_f (by decide) (br_f (by decide) (br_f (by decide) (br_t rfl h)))))
  · exact br_f (by decide) (br_f (by decide) (br_f (by decide) (br_f (by decide) (br_f (by decide) (br_f (by decide) (br_t rfl h))))))
  · exact br_f (by decide) (br_f (by decide) (br_f (by decide) (br_f (by decide) (br_f (by decide) (br_f (by decide) (br_f (by decide) (br_t rfl h)))))))
  · exact br_f (by decide) (br_f (by decide) (br_f (by decide) (br_f (by decide) (br_f (by decide) (br_f (by decide) (br_f (by decide) (br_f (by decide) (br_f (by decide) (br_f (by decide) (br_t rfl h))))))))))
theorem bg_ck (hA : sc_A D B P I kk kb kp ki) (ht : t < 20) {c : Nat} (hc : D t = c) : kk (nI t).toNatClampNeg = nI c := by rw [nI_clamp (by omega), sc_k hA, hc]
theorem bg_cp (hA : sc_A D B P I kk kb kp ki) (ht : t < 20) : kp (nI t).toNatClampNeg = nI (P t) := by rw [nI_clamp (by omega), sc_p hA]
end
end
section
section
variable {xT xL xC xG xV xA xF xD xN xS xK xI yW yV yD yR yA yF yO : Int32} {kk kb kp kn ki ka kh kd kf xb vt va ve xo xt xp xl xd xm xz xu xe xc xf kg yb yw yt ys yc yl yn yo ym yf tv tt tg yp yh : Nat → Int32} {nu rs vn yv : Nat → Int64}
variable {D B P I bb : Nat → Nat} {T L N d p t : Nat}
/-! the head, both sides -/
theorem bg_cN {n : Nat} (h : n < 400) : (nI n).toNatClampNeg = n := nI_clamp (by omega)
theorem bg_y266w {post : SY → Prop} {z : Int32} (h : ¬ yF = 0) (k : (wY_begin_279 post (nI t) (nI N) z xT xL yW xC xG yV yD yR yA yF yO kk kb kp kf kn ki ka kg kh yb yw nu rs yt ys yc yl yn yv yo ym yf tv tt tg yp yh)) : (wY_begin_266 post (nI t) (nI N) z xT xL yW xC xG yV yD yR yA yF yO kk kb kp kf kn ki ka kg kh yb yw nu rs yt ys yc yl yn yv yo ym yf tv tt tg yp yh) := br_f h k
theorem bg_y205 (hA : sc_A D B P I kk kb kp ki) (ht : t < 20) {post : SY → Prop} {z : Int32} (h : D t = 2 ∨ D t = 3 ∨ D t = 4 ∨ D t = 5 ∨ D t = 8) (k : (wY_begin_256 post (nI t) (nI N) z xT xL yW xC xG yV yD yR yA yF yO kk kb kp kf kn ki ka kg kh yb yw nu rs yt ys yc yl yn yv yo ym yf tv tt tg yp yh)) : (wY_begin_205 post (nI t) (nI N) z xT xL yW xC xG yV yD yR yA yF yO kk kb kp kf kn ki ka kg kh yb yw nu rs yt ys yc yl yn yv yo ym yf tv tt tg yp yh) := by
  have v : vp_in (nI t) 20 := vp_in_nI ht (by decide)
  refine And.intro v ?_
  rcases h with e | e | e | e | e <;> rw [bg_ck hA ht e]
  · exact br_t rfl k
  · exact br_f (by decide) ⟨v, br_t rfl k⟩
  · exact br_f (by decide) ⟨v, br_f (by decide) ⟨v, br_t rfl k⟩⟩
  · exact br_f (by decide) ⟨v, br_f (by decide) ⟨v, br_f (by decide) ⟨v, br_t rfl k⟩⟩⟩
  · exact br_f (by decide) ⟨v, br_f (by decide) ⟨v, br_f (by decide) ⟨v, br_f (by decide) ⟨v, br_t rfl k⟩⟩⟩⟩
theorem bg_y205n (hA : sc_A D B P I kk kb kp ki) (ht : t < 20) {post : SY → Prop} {z : Int32} (h : D t = 0 ∨ D t = 1 ∨ D t = 6 ∨ D t = 7 ∨ D t = 9) (k : (wY_begin_266 post (nI t) (nI N) z xT xL yW xC xG yV yD yR yA yF yO kk kb kp kf kn ki ka kg kh yb yw nu rs yt ys yc yl yn yv yo ym yf tv tt tg yp yh)) : (wY_begin_205 post (nI t) (nI N) z xT xL yW xC xG yV yD yR yA yF yO kk kb kp kf kn ki ka kg kh yb yw nu rs yt ys yc yl yn yv yo ym yf tv tt tg yp yh) := by
  have v : vp_in (nI t) 20 := vp_in_nI ht (by decide)
  refine And.intro v ?_
  rcases h with e | e | e | e | e <;> rw [bg_ck hA ht e] <;> exact br_f (by decide) ⟨v, br_f (by decide) ⟨v, br_f (by decide) ⟨v, br_f (by decide) ⟨v, br_f (by decide) k⟩⟩⟩⟩
/-- Y's check of a number -/
def bg_C (D P : Nat → Nat) (t : Nat) (w : Int64) : Prop :=
  (D t = 2 → w = w.toInt32.toInt64) ∧ (D t = 4 → ¬ w < 0 ∧ ¬ 20 < w) ∧ (D t = 5 ∨ D t = 8 → ¬ w < 0 ∧ w < (nI (P t)).toInt64)
theorem bg_ck_ok (hA : sc_A D B P I kk kb kp ki) (ht : t < 20) (hN : N < 400) {w : Int64} (hw : yv N = w) (hC : bg_C D P t w) {post : SY → Prop} (k : post (xT, xL, yW, xC, xG, yV, yD, yR, yA, yF, yO, kk, kb, kp, kf, kn, ki, ka, kg, kh, yb, yw, nu, rs, yt, ys, yc, yl, yn, yv, yo, ym, yf, tv, tt, tg, yp, yh)) : (wpY_check post (xT, xL, yW, xC, xG, yV, yD, yR, yA, yF, yO, kk, kb, kp, kf, kn, ki, ka, kg, kh, yb, yw, nu, rs, yt, ys, yc, yl, yn, yv, yo, ym, yf, tv, tt, tg, yp, yh) (nI N) (nI t)) := by
  have v : vp_in (nI t) 20 := vp_in_nI ht (by decide)
  have h9 := sc_k9 hA t
  refine And.intro (vp_in_nI hN (by decide)) (nm_r (e' := w) (by rw [bg_cN hN, hw]) ⟨v, nm_r (e' := nI (D t)) (bg_ck hA ht rfl) ?_⟩)
  have K49 : (wY_check_49 post (nI t) w (nI (D t)) xT xL yW xC xG yV yD yR yA yF yO kk kb kp kf kn ki ka kg kh yb yw nu rs yt ys yc yl yn yv yo ym yf tv tt tg yp yh) := by
    have K62 : D t = 5 ∨ D t = 8 → (wY_check_62 post (nI t) w xT xL yW xC xG yV yD yR yA yF yO kk kb kp kf kn ki ka kg kh yb yw nu rs yt ys yc yl yn yv yo ym yf tv tt tg yp yh) := fun e => br_f (hC.2.2 e).1 ⟨v, br_t (by rw [bg_cp hA ht]; exact (hC.2.2 e).2) k⟩
    refine br_c (fun e => K62 (Or.inl ((ba_e5 (by omega)).mp e))) (fun _ => br_c (fun e => K62 (Or.inr ((ba_e8 (by omega)).mp e))) (fun _ => k))
  have K29 : (wY_check_29 post (nI t) w (nI (D t)) xT xL yW xC xG yV yD yR yA yF yO kk kb kp kf kn ki ka kg kh yb yw nu rs yt ys yc yl yn yv yo ym yf tv tt tg yp yh) := br_c (fun e => br_f (hC.2.1 ((ba_e4 (by omega)).mp e)).1 (br_f (hC.2.1 ((ba_e4 (by omega)).mp e)).2 K49)) (fun _ => K49)
  exact br_c (fun e => br_t (hC.1 ((ba_e2 (by omega)).mp e)) K29) (fun _ => K29)
theorem bg_ck_no (hA : sc_A D B P I kk kb kp ki) (ht : t < 20) (hN : N < 400) {w : Int64} (hw : yv N = w) (hC : (D t = 2 ∧ ¬ w = w.toInt32.toInt64) ∨ (D t = 4 ∧ (w < 0 ∨ 20 < w)) ∨ ((D t = 5 ∨ D t = 8) ∧ (w < 0 ∨ ¬ w < (nI (P t)).toInt64))) {post : SY → Prop} (k : post (xT, xL, yW, xC, xG, yV, yD, yR, yA, -3, yO, kk, kb, kp, kf, kn, ki, ka, kg, kh, yb, yw, nu, rs, yt, ys, yc, yl, yn, yv, yo, ym, yf, tv, tt, tg, yp, yh)) : (wpY_check post (xT, xL, yW, xC, xG, yV, yD, yR, yA, yF, yO, kk, kb, kp, kf, kn, ki, ka, kg, kh, yb, yw, nu, rs, yt, ys, yc, yl, yn, yv, yo, ym, yf, tv, tt, tg, yp, yh) (nI N) (nI t)) := by
  have v : vp_in (nI t) 20 := vp_in_nI ht (by decide)
  refine And.intro (vp_in_nI hN (by decide)) (nm_r (e' := w) (by rw [bg_cN hN, hw]) ⟨v, nm_r (e' := nI (D t)) (bg_ck hA ht rfl) ?_⟩)
  have K62 : (w < 0 ∨ ¬ w < (nI (P t)).toInt64) → (wY_check_62 post (nI t) w xT xL yW xC xG yV yD yR yA yF yO kk kb kp kf kn ki ka kg kh yb yw nu rs yt ys yc yl yn yv yo ym yf tv tt tg yp yh) := by
    intro e
    by_cases z : w < 0
    · exact br_t z k
    · exact br_f z ⟨v, br_f (by rw [bg_cp hA ht]; exact e.resolve_left z) k⟩
  rcases hC with ⟨e, h⟩ | ⟨e, h⟩ | ⟨e | e, h⟩ <;> rw [e]
  · exact br_t rfl (br_f h k)
  · refine br_f (by decide) (br_t rfl ?_)
    by_cases z : w < 0
    · exact br_t z k
    · exact br_f z (br_t (h.resolve_left z) k)
  · exact br_f (by decide) (br_f (by decide) (br_t rfl (K62 h)))
  · exact br_f (by decide) (br_f (by decide) (br_f (by decide) (br_t rfl (K62 h))))
theorem bg_pm {m : Nat} (h : m ≤ 5) (x : Int64) (hx : ¬ x < 0) : x ≤ (nI m - 1).toInt64 ↔ x < (nI m).toInt64 := by
  obtain ⟨k, hk, rfl⟩ := pk_lOf hx
  by_cases z : m = 0
  · subst z
    have e1 : (nI 0 - 1).toInt64 = -1 := by decide
    have e2 : (nI 0).toInt64 = 0 := by decide
    rw [e1, e2]
    constructor
    · intro h; rw [Int64.le_iff_toInt_le, pk_lT hk] at h
      have : (-1 : Int64).toInt = -1 := by decide
      omega
    · intro h; exact absurd h hx
  · rw [ba_s1 (by omega), nI_l (by omega), nI_l (by omega), pk_lLE hk (by omega), pk_lLT hk (by omega)]
    omega
theorem bg_xw (hA : sc_A D B P I kk kb kp ki) (ht : t < 20) {w : Int64} (hk : D t = 2 ∨ D t = 3 ∨ D t = 4 ∨ D t = 5 ∨ D t = 8) {post : Int64 → SX → Prop}
    {p' : Nat} (hX : lo_X xb L p w p' 0)
    (hC : bg_C D P t w → post w (xT, nI L, xC, xG, xV, nI p', 0, xD, xN, xS, xK, xI, kk, kb, kp, kn, ki, ka, kh, kd, kf, xb, nu, rs, vt, vn, va, ve, xo, xt, xp, xl, xd, xm, xz, xu, xe, xc, xf)) (hN : ¬ bg_C D P t w → post w (xT, nI L, xC, xG, xV, nI p', -3, xD, xN, xS, xK, xI, kk, kb, kp, kn, ki, ka, kh, kd, kf, xb, nu, rs, vt, vn, va, ve, xo, xt, xp, xl, xd, xm, xz, xu, xe, xc, xf)) : (wX_head_76 post (nI t) xT (nI L) xC xG xV (nI p) 0 xD xN xS xK xI kk kb kp kn ki ka kh kd kf xb nu rs vt vn va ve xo xt xp xl xd xm xz xu xe xc xf) := by
  have v : vp_in (nI t) 20 := vp_in_nI ht (by decide)
  have h5 := sc_p5 hA t
  unfold wX_head_76
  refine lo_Xe hX (br_t rfl ⟨v, ?_⟩)
  rcases hk with e | e | e | e | e <;> rw [bg_ck hA ht e]
  · refine br_f (by decide) ⟨v, br_t rfl ?_⟩
    by_cases z : w = w.toInt32.toInt64
    · have y := (bg_lI w).mp z
      exact xf_wi y.1 y.2 (hC ⟨fun _ => z, fun h => by omega, fun h => by omega⟩)
    · refine xf_wi_b ?_ (hN (fun h => z (h.1 e)))
      by_cases y : w < -2147483648
      · exact Or.inl y
      · exact Or.inr (fun y2 => z ((bg_lI w).mpr ⟨y, y2⟩))
  · exact br_t rfl (hC ⟨fun h => by omega, fun h => by omega, fun h => by omega⟩)
  · refine br_f (by decide) ⟨v, br_f (by decide) ⟨v, br_t rfl ?_⟩⟩
    unfold wX_head_150
    by_cases z : ¬ w < 0 ∧ ¬ 20 < w
    · exact xf_wi z.1 (Int64.not_lt.mp z.2) (hC ⟨fun h => by omega, fun _ => z, fun h => by omega⟩)
    · refine xf_wi_b ?_ (hN (fun h => z (h.2.1 e)))
      by_cases y : w < 0
      · exact Or.inl y
      · exact Or.inr (fun y2 => z ⟨y, Int64.not_lt.mpr y2⟩)
  all_goals
    refine br_f (by decide) ⟨v, br_f (by decide) ⟨v, br_f (by decide) ⟨v, ?_⟩⟩⟩
    rw [bg_cp hA ht]
    unfold wX_head_150
    by_cases z : ¬ w < 0 ∧ w < (nI (P t)).toInt64
    · exact xf_wi z.1 ((bg_pm h5 w z.1).mpr z.2) (hC ⟨fun h => by omega, fun h => by omega, fun _ => z⟩)
    · refine xf_wi_b ?_ (hN (fun h => z (h.2.2 (by omega))))
      by_cases y : w < 0
      · exact Or.inl y
      · exact Or.inr (fun y2 => z ⟨y, (bg_pm h5 w y).mp y2⟩)
theorem bg_xwf (hA : sc_A D B P I kk kb kp ki) (ht : t < 20) {w : Int64} {f : Int32} (hf : ¬ f = 0) {post : Int64 → SX → Prop}
    {p' : Nat} (hX : lo_X xb L p w p' f)
    (h : post w (xT, nI L, xC, xG, xV, nI p', f, xD, xN, xS, xK, xI, kk, kb, kp, kn, ki, ka, kh, kd, kf, xb, nu, rs, vt, vn, va, ve, xo, xt, xp, xl, xd, xm, xz, xu, xe, xc, xf)) : (wX_head_76 post (nI t) xT (nI L) xC xG xV (nI p) 0 xD xN xS xK xI kk kb kp kn ki ka kh kd kf xb nu rs vt vn va ve xo xt xp xl xd xm xz xu xe xc xf) := by
  unfold wX_head_76
  exact lo_Xe hX (br_f hf h)
theorem bg_CH (hA : sc_A D B P I kk kb kp ki) {w : Int64} (hk : D t = 2 ∨ D t = 3 ∨ D t = 4 ∨ D t = 5 ∨ D t = 8) (hC : bg_C D P t w) : bg_H D P t w := by
  have h5 := sc_p5 hA t
  refine ⟨fun e => ?_, fun e => ?_, fun e => by omega⟩
  · obtain ⟨h1, h2⟩ := hC.2.1 e
    obtain ⟨k, hk, rfl⟩ := pk_lOf h1
    refine ⟨k, ?_, rfl⟩
    have : ¬ lN 20 < lN k := h2
    rw [pk_lLT (by omega) hk] at this
    omega
  · obtain ⟨h1, h2⟩ := hC.2.2 e
    obtain ⟨k, hk, rfl⟩ := pk_lOf h1
    refine ⟨k, ?_, rfl⟩
    rw [nI_l (by omega), pk_lLT hk (by omega)] at h2
    exact h2
theorem bg_nC {w : Int64} (hk : D t = 2 ∨ D t = 3 ∨ D t = 4 ∨ D t = 5 ∨ D t = 8) (hC : ¬ bg_C D P t w) : (D t = 2 ∧ ¬ w = w.toInt32.toInt64) ∨ (D t = 4 ∧ (w < 0 ∨ 20 < w)) ∨ ((D t = 5 ∨ D t = 8) ∧ (w < 0 ∨ ¬ w < (nI (P t)).toInt64)) := by
  rcases hk with e | e | e | e | e
  · exact Or.inl ⟨e, fun z => hC ⟨fun _ => z, fun h => by omega, fun h => by omega⟩⟩
  · exact absurd ⟨fun h => by omega, fun h => by omega, fun h => by omega⟩ hC
  · refine Or.inr (Or.inl ⟨e, ?_⟩)
    by_cases z : w < 0
    · exact Or.inl z
    · by_cases y : 20 < w
      · exact Or.inr y
      · exact absurd ⟨fun h => by omega, fun _ => ⟨z, y⟩, fun h => by omega⟩ hC
  all_goals
    refine Or.inr (Or.inr ⟨by omega, ?_⟩)
    by_cases z : w < 0
    · exact Or.inl z
    · by_cases y : w < (nI (P t)).toInt64
      · exact absurd ⟨fun h => by omega, fun h => by omega, fun _ => ⟨z, y⟩⟩ hC
      · exact Or.inr y
/-- X's and Y's heads, whatever else the states hold -/
def bg_X (D B P I : Nat → Nat) (kk kb kp ki xb : Nat → Int32) (L p t : Nat) (w : Int64) (p' : Nat) (f : Int32) : Prop :=
  ∀ (xT xC xG xV xD xN xS xK xI : Int32) (kn ka kh kd kf vt va ve xo xt xp xl xd xm xz xu xe xc xf : Nat → Int32) (nu rs vn : Nat → Int64), ∀ post : Int64 → SX → Prop, post w (xT, nI L, xC, xG, xV, nI p', f, xD, xN, xS, xK, xI, kk, kb, kp, kn, ki, ka, kh, kd, kf, xb, nu, rs, vt, vn, va, ve, xo, xt, xp, xl, xd, xm, xz, xu, xe, xc, xf) → (wpX_head post (xT, nI L, xC, xG, xV, nI p, 0, xD, xN, xS, xK, xI, kk, kb, kp, kn, ki, ka, kh, kd, kf, xb, nu, rs, vt, vn, va, ve, xo, xt, xp, xl, xd, xm, xz, xu, xe, xc, xf) (nI t))
def bg_Y (kk kb kp ki yb : Nat → Int32) (N L p t : Nat) (w : Int64) (p' : Nat) (f : Int32) : Prop :=
  ∀ (xT yW xC xG yV yD yR yO : Int32) (kf kn ka kg kh yw yt ys yc yl yn yo ym yf tv tt tg yp yh : Nat → Int32) (nu rs : Nat → Int64), ∀ (yv : Nat → Int64), ∃ yv' : Nat → Int64, (∀ j, j ≠ N → yv' j = yv j) ∧ yv' N = w ∧ ∀ (post : SY → Prop) (z : Int32), (wY_begin_279 post (nI t) (nI N) z xT (nI L) yW xC xG yV yD yR (nI p') f yO kk kb kp kf kn ki ka kg kh yb yw nu rs yt ys yc yl yn yv' yo ym yf tv tt tg yp yh) → (wY_begin_166 post (nI t) (nI N) z xT (nI L) yW xC xG yV yD yR (nI p) 0 yO kk kb kp kf kn ki ka kg kh yb yw nu rs yt ys yc yl yn yv yo ym yf tv tt tg yp yh)
theorem bg_headK (hA : sc_A D B P I kk kb kp ki) (hB : by_ok xb yb bb) (hL : L ≤ 100) (hp : p ≤ L) (ht : t < 20) (hN : N < 400) (hK : bg_K (D t)) :
    ∃ (w : Int64) (p1 : Nat) (f : Int32), p ≤ p1 ∧ p1 ≤ L ∧ (f = 0 → bg_H D P t w) ∧ bg_X D B P I kk kb kp ki xb L p t w p1 f ∧ bg_Y kk kb kp ki yb N L p t w p1 f := by
  have v : vp_in (nI t) 20 := vp_in_nI ht (by decide)
  have vN : vp_in (nI N) 400 := vp_in_nI hN (by decide)
  have h9 := sc_k9 hA t
  by_cases hk : D t = 2 ∨ D t = 3 ∨ D t = 4 ∨ D t = 5 ∨ D t = 8
  · have n1 : ¬ kk (nI t).toNatClampNeg = 1 := by rw [bg_ck hA ht rfl]; exact fun e => by have := (ba_e1 (by omega)).mp e; omega
    obtain ⟨w, p1, f, h1, h2, h3, hX, hY⟩ := lo_long (p := p) hB hL hp
    by_cases hf : f = 0
    · subst hf
      by_cases hC : bg_C D P t w
      · refine ⟨w, p1, 0, h1, h2, fun _ => bg_CH hA hk hC, ?_, ?_⟩
        · unfold bg_X
          intros
          rename_i h
          exact bg_hl hA ht hk (bg_xw hA ht hk hX (fun _ => h) (fun n => absurd hC n))
        · unfold bg_Y
          intros
          rename_i yv
          refine ⟨vp_updL yv N w, fun j hj => ba_uLn hj, ba_uLs, fun post z h => And.intro v (br_f n1 (bg_y205 hA ht hk ?_))⟩
          unfold wY_begin_256
          refine lo_Ye hY ⟨vN, nm_r (e' := vp_updL yv N w) (by rw [bg_cN hN]) (br_t rfl (bg_ck_ok hA ht hN ba_uLs hC h))⟩
      · refine ⟨w, p1, -3, h1, h2, fun h => absurd h (by decide), ?_, ?_⟩
        · unfold bg_X
          intros
          rename_i h
          exact bg_hl hA ht hk (bg_xw hA ht hk hX (fun y => absurd y hC) (fun _ => h))
        · unfold bg_Y
          intros
          rename_i yv
          refine ⟨vp_updL yv N w, fun j hj => ba_uLn hj, ba_uLs, fun post z h => And.intro v (br_f n1 (bg_y205 hA ht hk ?_))⟩
          unfold wY_begin_256
          refine lo_Ye hY ⟨vN, nm_r (e' := vp_updL yv N w) (by rw [bg_cN hN]) (br_t rfl (bg_ck_no hA ht hN ba_uLs (bg_nC hk hC) h))⟩
    · refine ⟨w, p1, f, h1, h2, fun h => absurd h hf, ?_, ?_⟩
      · unfold bg_X
        intros
        rename_i h
        exact bg_hl hA ht hk (bg_xwf hA ht hf hX h)
      · unfold bg_Y
        intros
        rename_i yv
        refine ⟨vp_updL yv N w, fun j hj => ba_uLn hj, ba_uLs, fun post z h => And.intro v (br_f n1 (bg_y205 hA ht hk ?_))⟩
        unfold wY_begin_256
        exact lo_Ye hY ⟨vN, nm_r (e' := vp_updL yv N w) (by rw [bg_cN hN]) (br_f hf h)⟩
  · have e1 : D t = 1 := by unfold bg_K at hK; omega
    have k1 : kk (nI t).toNatClampNeg = 1 := by rw [bg_ck hA ht e1]; rfl
    rcases Nat.lt_or_ge p L with z | z
    · obtain ⟨b1, b2, b3⟩ := hB p
      have el : (nI (bb p)).toInt64 = lN (bb p) := nI_l (by omega)
      by_cases hb : bb p ≤ 1
      · refine ⟨lN (bb p), p + 1, 0, by omega, by omega, fun _ => ⟨fun h => by omega, fun h => by omega, fun h => by omega⟩, ?_, ?_⟩
        · unfold bg_X
          intros
          rename_i h
          refine bg_h1 hA ht e1 (xf_nb z hL b1 ?_)
          rw [el]
          exact xf_wi (fun e => by have := (pk_lLT (a := bb p) (b := 0) (by omega) (by omega)).mp e; omega) ((pk_lLE (a := bb p) (b := 1) (by omega) (by omega)).mpr hb) h
        · unfold bg_Y
          intros
          rename_i yv
          refine ⟨vp_updL yv N (lN (bb p)), fun j hj => ba_uLn hj, ba_uLs, fun post z' h => And.intro v (br_t k1 (yf_take z hL b2 ⟨vN, nm_r (e' := vp_updL yv N (lN (bb p))) (by rw [bg_cN hN, el]) ⟨vN, br_t ?_ (bg_y205n hA ht (by omega) (br_t rfl (bg_ck_ok hA ht hN ba_uLs ⟨fun h => by omega, fun h => by omega, fun h => by omega⟩ h)))⟩⟩))⟩
          rw [bg_cN hN, ba_uLs]
          exact (pk_lLE (a := bb p) (b := 1) (by omega) (by omega)).mpr hb
      · refine ⟨lN (bb p), p + 1, -3, by omega, by omega, fun h => absurd h (by decide), ?_, ?_⟩
        · unfold bg_X
          intros
          rename_i h
          refine bg_h1 hA ht e1 (xf_nb z hL b1 ?_)
          rw [el]
          exact xf_wi_b (Or.inr (fun e => hb ((pk_lLE (a := bb p) (b := 1) (by omega) (by omega)).mp e))) h
        · unfold bg_Y
          intros
          rename_i yv
          refine ⟨vp_updL yv N (lN (bb p)), fun j hj => ba_uLn hj, ba_uLs, fun post z' h => And.intro v (br_t k1 (yf_take z hL b2 ⟨vN, nm_r (e' := vp_updL yv N (lN (bb p))) (by rw [bg_cN hN, el]) ⟨vN, br_f ?_ (bg_y205n hA ht (by omega) (br_f (by decide) h))⟩⟩))⟩
          rw [bg_cN hN, ba_uLs]
          exact fun e => hb ((pk_lLE (a := bb p) (b := 1) (by omega) (by omega)).mp e)
    · obtain rfl : p = L := by omega
      refine ⟨0, p, -2, by omega, by omega, fun h => absurd h (by decide), ?_, ?_⟩
      · unfold bg_X
        intros
        rename_i h
        exact bg_h1 hA ht e1 (xf_nb_s (xf_wi (by decide) (by decide) h))
      · unfold bg_Y
        intros
        rename_i yv
        refine ⟨vp_updL yv N 0, fun j hj => ba_uLn hj, ba_uLs, fun post z' h => And.intro v (br_t k1 (yf_take_s ⟨vN, nm_r (e' := vp_updL yv N 0) (by rw [bg_cN hN]; rfl) ⟨vN, br_t ?_ (bg_y205n hA ht (by omega) (br_f (by decide) h))⟩⟩))⟩
        rw [bg_cN hN, ba_uLs]
        decide
end
end
section
section
variable {xT xL xC xG xV xA xF xD xN xS xK xI yW yV yD yR yA yF yO : Int32} {kk kb kp kn ki ka kh kd kf xb vt va ve xo xt xp xl xd xm xz xu xe xc xf kg yb yw yt ys yc yl yn yo ym yf tv tt tg yp yh : Nat → Int32} {nu rs vn yv : Nat → Int64}
variable {D B P I bb : Nat → Nat} {T L N d p t : Nat}
/-! what reading leaves behind -/
abbrev rd_SX : Type := Int32 × Int32 × Int32 × Int32 × (Nat → Int32) × (Nat → Int64) × (Nat → Int32) × (Nat → Int32) × (Nat → Int32) × (Nat → Int32) × (Nat → Int32) × (Nat → Int32)
abbrev rd_SY : Type := Int32 × Int32 × Int32 × Int32 × (Nat → Int32) × (Nat → Int32) × (Nat → Int32) × (Nat → Int32) × (Nat → Int32) × (Nat → Int64) × (Nat → Int32) × (Nat → Int32) × (Nat → Int32)
/-! X's tail -/
theorem bg_x147 (hA : sc_A D B P I kk kb kp ki) (ht : t < 20) (hN : N < 400) (hd : d < 400) {post : SX → Prop} (k : post (xT, xL, xC, xG, xV, xA, xF, nI (if 7 ≤ D t then d + 1 else d), (if D t = 9 then xN + 1 else xN), xS, xK, xI, kk, kb, kp, kn, ki, ka, kh, kd, kf, xb, nu, rs, vt, vn, va, ve, (if 7 ≤ D t then upd xo d (nI N) else xo), (if 7 ≤ D t then upd xt d (nI t) else xt), (if 7 ≤ D t then upd xp d 0 else xp), (if 7 ≤ D t then upd xl d 0 else xl), xd, xm, xz, xu, xe, xc, xf)) : (wX_begin_147 post (nI t) (nI N) xT xL xC xG xV xA xF (nI d) xN xS xK xI kk kb kp kn ki ka kh kd kf xb nu rs vt vn va ve xo xt xp xl xd xm xz xu xe xc xf) := by
  have v : vp_in (nI t) 20 := vp_in_nI ht (by decide)
  have h9 := sc_k9 hA t
  refine And.intro v ?_
  rw [bg_ck hA ht rfl]
  by_cases h7 : 7 ≤ D t
  · refine br_f (fun e => by have := (ba_lt7 (by omega)).mp e; omega) (xf_opens (l := 0) hd (ba_s (by omega)) ht (by omega) (And.intro v ?_))
    rw [bg_ck hA ht rfl]
    simp only [if_pos h7] at k
    by_cases e9 : D t = 9
    · simp only [if_pos e9] at k
      rw [e9]
      exact br_t rfl (nm_e k)
    · simp only [if_neg e9] at k
      exact br_f (fun e => e9 ((ba_e9 (by omega)).mp e)) k
  · have e9 : ¬ D t = 9 := by omega
    simp only [if_neg h7, if_neg e9] at k
    refine br_t ((ba_lt7 (by omega)).mpr (by omega)) (And.intro v ?_)
    rw [bg_ck hA ht rfl]
    exact br_f (fun e => e9 ((ba_e9 (by omega)).mp e)) k
/-- what is skipped -/
def bg_S (D B : Nat → Nat) (t : Nat) (w : Int64) (m : Nat) : Prop := (D t = 4 → w = lN m ∧ m ≤ 20) ∧ (D t = 6 → m = B t) ∧ (¬ D t = 4 → ¬ D t = 6 → m = 0)
theorem bg_x44 (hA : sc_A D B P I kk kb kp ki) (hL : L ≤ 100) (ht : t < 20) (hN : N < 400) (hd : d < 400) {w : Int64} {p1 m : Nat} (hp1 : p1 ≤ L) (hS : bg_S D B t w m) (hX : bg_X D B P I kk kb kp ki xb L p t w p1 0) {post : SX → Prop}
    (k : p1 + m ≤ L → post (xT, nI L, xC, xG, nI (N + 1), nI (p1 + m), 0, nI (if 7 ≤ D t then d + 1 else d), (if D t = 9 then xN + 1 else xN), xS, xK, xI, kk, kb, kp, kn, ki, ka, kh, kd, kf, xb, nu, rs, upd vt N (nI t), vp_updL vn N w, upd va N (nI p1), upd ve N (nI (N + 1)), (if 7 ≤ D t then upd xo d (nI N) else xo), (if 7 ≤ D t then upd xt d (nI t) else xt), (if 7 ≤ D t then upd xp d 0 else xp), (if 7 ≤ D t then upd xl d 0 else xl), xd, xm, xz, xu, xe, xc, xf))
    (kF : L < p1 + m → post (xT, nI L, xC, xG, nI (N + 1), nI p1, -2, nI d, xN, xS, xK, xI, kk, kb, kp, kn, ki, ka, kh, kd, kf, xb, nu, rs, upd vt N (nI t), vp_updL vn N w, upd va N (nI p1), upd ve N (nI (N + 1)), xo, xt, xp, xl, xd, xm, xz, xu, xe, xc, xf)) :
    (wX_begin_44 post (nI t) xT (nI L) xC xG (nI N) (nI p) 0 (nI d) xN xS xK xI kk kb kp kn ki ka kh kd kf xb nu rs vt vn va ve xo xt xp xl xd xm xz xu xe xc xf) := by
  have v : vp_in (nI t) 20 := vp_in_nI ht (by decide)
  have vN : vp_in (nI N) 400 := vp_in_nI hN (by decide)
  have h9 := sc_k9 hA t
  have hb := sc_b20 hA t
  refine nm_r (nI_1 N) (And.intro vN (nm_r (e' := upd vt N (nI t)) (by rw [bg_cN hN, pk_vb, ba_b (by omega)]) ?_))
  unfold bg_X at hX
  apply hX
  refine ⟨vN, nm_r (e' := vp_updL vn N w) (by rw [bg_cN hN]) ⟨vN, nm_r (e' := upd va N (nI p1)) (by rw [bg_cN hN, pk_vs, ba_s (by omega)]) ⟨vN, nm_r (e' := upd ve N (nI (N + 1))) (by rw [bg_cN hN, pk_vs, ba_s (by omega)]) (br_t rfl ⟨v, ?_⟩)⟩⟩⟩
  rw [bg_ck hA ht rfl]
  by_cases e4 : D t = 4
  · obtain ⟨s1, s2⟩ := hS.1 e4
    have n6 : ¬ kk (nI t).toNatClampNeg = 6 := by rw [bg_ck hA ht e4]; decide
    refine br_t (by rw [e4]; rfl) ⟨vN, ?_⟩
    rw [bg_cN hN, ba_uLs, s1, lN_i]
    rw [s1] at k kF
    rcases Nat.lt_or_ge L (p1 + m) with z | z
    · have n7 : ¬ 7 ≤ D t := by omega
      have n9 : ¬ D t = 9 := by omega
      refine xf_skip_s z hp1 hL s2 (And.intro v (br_f n6 (bg_x147 hA ht hN hd ?_)))
      simp only [if_neg n7, if_neg n9]
      exact kF z
    · exact xf_skip z hL (And.intro v (br_f n6 (bg_x147 hA ht hN hd (k z))))
  · refine br_f (fun e => e4 ((ba_e4 (by omega)).mp e)) (And.intro v ?_)
    rw [bg_ck hA ht rfl]
    by_cases e6 : D t = 6
    · have s := hS.2.1 e6
      refine br_t (by rw [e6]; rfl) ⟨v, ?_⟩
      rw [nI_clamp (by omega), sc_b hA, ← s]
      rcases Nat.lt_or_ge L (p1 + m) with z | z
      · have n7 : ¬ 7 ≤ D t := by omega
        have n9 : ¬ D t = 9 := by omega
        refine xf_skip_s z hp1 hL (by omega) (bg_x147 hA ht hN hd ?_)
        simp only [if_neg n7, if_neg n9]
        exact kF z
      · exact xf_skip z hL (bg_x147 hA ht hN hd (k z))
    · have s := hS.2.2 e4 e6
      rw [s] at k
      exact br_f (fun e => e6 ((ba_e6 (by omega)).mp e)) (bg_x147 hA ht hN hd (k (by omega)))
theorem bg_x44f (ht : t < 20) (hN : N < 400) {w : Int64} {p1 : Nat} {f : Int32} (hL : L ≤ 100) (hp1 : p1 ≤ L) (hf : ¬ f = 0) (hX : bg_X D B P I kk kb kp ki xb L p t w p1 f) {post : SX → Prop}
    (k : post (xT, nI L, xC, xG, nI (N + 1), nI p1, f, nI d, xN, xS, xK, xI, kk, kb, kp, kn, ki, ka, kh, kd, kf, xb, nu, rs, upd vt N (nI t), vp_updL vn N w, upd va N (nI p1), upd ve N (nI (N + 1)), xo, xt, xp, xl, xd, xm, xz, xu, xe, xc, xf)) :
    (wX_begin_44 post (nI t) xT (nI L) xC xG (nI N) (nI p) 0 (nI d) xN xS xK xI kk kb kp kn ki ka kh kd kf xb nu rs vt vn va ve xo xt xp xl xd xm xz xu xe xc xf) := by
  have vN : vp_in (nI N) 400 := vp_in_nI hN (by decide)
  refine nm_r (nI_1 N) (And.intro vN (nm_r (e' := upd vt N (nI t)) (by rw [bg_cN hN, pk_vb, ba_b (by omega)]) ?_))
  unfold bg_X at hX
  apply hX
  exact ⟨vN, nm_r (e' := vp_updL vn N w) (by rw [bg_cN hN]) ⟨vN, nm_r (e' := upd va N (nI p1)) (by rw [bg_cN hN, pk_vs, ba_s (by omega)]) ⟨vN, nm_r (e' := upd ve N (nI (N + 1))) (by rw [bg_cN hN, pk_vs, ba_s (by omega)]) (br_f hf k)⟩⟩⟩
/-! Y's tail -/
theorem bg_y399 (hd : d < 400) {post : SY → Prop} {z : Int32} (hz : z = if D t < 7 then 0 else 1) (k : post (xT, xL, yW, xC, xG, yV, nI (if 7 ≤ D t then d + 1 else d), yR, yA, yF, yO, kk, kb, kp, kf, kn, ki, ka, kg, kh, yb, yw, nu, rs, yt, ys, yc, yl, yn, yv, (if 7 ≤ D t then upd yo d (nI N) else yo), (if 7 ≤ D t then upd ym d 0 else ym), (if 7 ≤ D t then upd yf d 0 else yf), tv, tt, tg, yp, yh)) : (wY_begin_399 post (nI N) z xT xL yW xC xG yV (nI d) yR yA yF yO kk kb kp kf kn ki ka kg kh yb yw nu rs yt ys yc yl yn yv yo ym yf tv tt tg yp yh) := by
  have vd : vp_in (nI d) 401 := vp_in_nI (by omega) (by decide)
  have cd : (nI d).toNatClampNeg = d := nI_clamp (by omega)
  by_cases h7 : 7 ≤ D t
  · simp only [if_pos h7] at k
    rw [if_neg (by omega)] at hz
    exact br_f (by rw [hz]; decide) ⟨vd, nm_r (e' := upd yo d (nI N)) (by rw [cd]) ⟨vd, nm_r (e' := upd ym d 0) (by rw [cd]) ⟨vd, nm_r (e' := upd yf d 0) (by rw [cd]) (nm_r (nI_1 d) k)⟩⟩⟩
  · simp only [if_neg h7] at k
    rw [if_pos (by omega)] at hz
    exact br_t hz k
theorem bg_y360 (hA : sc_A D B P I kk kb kp ki) (ht : t < 20) (hN : N < 400) (hd : d < 400) {post : SY → Prop} {z : Int32} (hz : z = if D t < 7 then 0 else 1) (k : post (xT, xL, yW, xC, xG, yV, nI (if 7 ≤ D t then d + 1 else d), (if D t = 9 then yR + 1 else yR), yA, yF, yO, kk, kb, kp, kf, kn, ki, ka, kg, kh, yb, yw, nu, rs, yt, ys, yc, yl, yn, (if D t = 7 then vp_updL yv N 0 else yv), (if 7 ≤ D t then upd yo d (nI N) else yo), (if 7 ≤ D t then upd ym d 0 else ym), (if 7 ≤ D t then upd yf d 0 else yf), tv, tt, tg, yp, yh)) : (wY_begin_360 post (nI t) (nI N) z xT xL yW xC xG yV (nI d) yR yA yF yO kk kb kp kf kn ki ka kg kh yb yw nu rs yt ys yc yl yn yv yo ym yf tv tt tg yp yh) := by
  have v : vp_in (nI t) 20 := vp_in_nI ht (by decide)
  have vN : vp_in (nI N) 400 := vp_in_nI hN (by decide)
  have h9 := sc_k9 hA t
  refine And.intro v ?_
  rw [bg_ck hA ht rfl]
  by_cases e9 : D t = 9
  · have e7 : ¬ D t = 7 := by omega
    refine br_t (by rw [e9]; rfl) (nm_e (And.intro v (br_f (by rw [bg_ck hA ht e9]; decide) (bg_y399 (D := D) (t := t) hd hz ?_))))
    simp only [if_pos e9, if_neg e7] at k
    exact k
  · simp only [if_neg e9] at k
    refine br_f (fun e => e9 ((ba_e9 (by omega)).mp e)) (And.intro v ?_)
    rw [bg_ck hA ht rfl]
    by_cases e7 : D t = 7
    · simp only [if_pos e7] at k
      exact br_t (by rw [e7]; rfl) ⟨vN, nm_r (e' := vp_updL yv N 0) (by rw [bg_cN hN]) (bg_y399 (D := D) (t := t) hd hz k)⟩
    · simp only [if_neg e7] at k
      exact br_f (fun e => e7 ((ba_e7 (by omega)).mp e)) (bg_y399 (D := D) (t := t) hd hz k)
theorem bg_y335w {post : SY → Prop} {n : Nat} {z x4 x5 : Int32} (hw : ¬ yF = 0) (k : (wY_begin_360 post (nI t) (nI N) z xT xL yW xC xG yV yD yR yA yF yO kk kb kp kf kn ki ka kg kh yb yw nu rs yt ys yc yl yn yv yo ym yf tv tt tg yp yh)) : (wY_begin_335 post (nI t) (nI N) z x4 (n + 1) x5 xT xL yW xC xG yV yD yR yA yF yO kk kb kp kf kn ki ka kg kh yb yw nu rs yt ys yc yl yn yv yo ym yf tv tt tg yp yh) := br_c (fun _ => k) (fun _ => br_f hw k)
theorem bg_y335 (hB : by_ok xb yb bb) (hL : L ≤ 100) {post : SY → Prop} {z : Int32} {M : Nat} (hM : M ≤ 20) : ∀ m i p n : Nat, i + m = M → p ≤ L → m + 1 < n →
    (p + m ≤ L → (wY_begin_360 post (nI t) (nI N) z xT (nI L) yW xC xG yV yD yR (nI (p + m)) 0 yO kk kb kp kf kn ki ka kg kh yb yw nu rs yt ys yc yl yn yv yo ym yf tv tt tg yp yh)) → (L < p + m → (wY_begin_360 post (nI t) (nI N) z xT (nI L) yW xC xG yV yD yR (nI L) (-2) yO kk kb kp kf kn ki ka kg kh yb yw nu rs yt ys yc yl yn yv yo ym yf tv tt tg yp yh)) →
    (wY_begin_335 post (nI t) (nI N) z (nI M) n (nI i) xT (nI L) yW xC xG yV yD yR (nI p) 0 yO kk kb kp kf kn ki ka kg kh yb yw nu rs yt ys yc yl yn yv yo ym yf tv tt tg yp yh) := by
  intro m
  induction m with
  | zero =>
    intro i p n hi hp hn k kF
    obtain ⟨n, rfl⟩ : ∃ n', n = n' + 1 := ⟨n - 1, by omega⟩
    exact br_t (nI_le (by omega) (by omega)) (k hp)
  | succ m ih =>
    intro i p n hi hp hn k kF
    obtain ⟨n, rfl⟩ : ∃ n', n = n' + 1 := ⟨n - 1, by omega⟩
    refine br_f (nI_ge (by omega) (by omega)) (br_t rfl ?_)
    rcases Nat.lt_or_ge p L with z | z
    · refine yf_take z hL (hB p).2.1 (nm_r (nI_1 i) (ih (i + 1) (p + 1) n (by omega) (by omega) (by omega) (fun h => ?_) (fun h => kF (by omega))))
      have e : p + 1 + m = p + (m + 1) := by omega
      rw [e]; exact k (by omega)
    · obtain rfl : p = L := by omega
      obtain ⟨n, rfl⟩ : ∃ n', n = n' + 1 := ⟨n - 1, by omega⟩
      exact yf_take_s (nm_e (bg_y335w (by decide) (kF (by omega))))
theorem bg_y279 (hA : sc_A D B P I kk kb kp ki) (hB : by_ok xb yb bb) (hL : L ≤ 100) (ht : t < 20) (hN : N < 400) (hp : p ≤ L) {w : Int64} {m : Nat} (hS : bg_S D B t w m) (hw : D t = 4 → yv N = w) {post : SY → Prop} {z : Int32}
    (k : p + m ≤ L → (wY_begin_360 post (nI t) (nI N) z xT (nI L) yW xC xG yV yD yR (nI (p + m)) 0 yO kk kb kp kf kn ki ka kg kh yb yw nu rs yt (upd ys N (nI p)) yc yl yn yv yo ym yf tv tt tg yp yh)) (kF : L < p + m → (wY_begin_360 post (nI t) (nI N) z xT (nI L) yW xC xG yV yD yR (nI L) (-2) yO kk kb kp kf kn ki ka kg kh yb yw nu rs yt (upd ys N (nI p)) yc yl yn yv yo ym yf tv tt tg yp yh)) :
    (wY_begin_279 post (nI t) (nI N) z xT (nI L) yW xC xG yV yD yR (nI p) 0 yO kk kb kp kf kn ki ka kg kh yb yw nu rs yt ys yc yl yn yv yo ym yf tv tt tg yp yh) := by
  have v : vp_in (nI t) 20 := vp_in_nI ht (by decide)
  have vN : vp_in (nI N) 400 := vp_in_nI hN (by decide)
  have h9 := sc_k9 hA t
  have hb := sc_b20 hA t
  refine And.intro vN (nm_r (e' := upd ys N (nI p)) (by rw [bg_cN hN]) ⟨v, ?_⟩)
  rw [bg_ck hA ht rfl]
  by_cases e4 : D t = 4
  · obtain ⟨s1, s2⟩ := hS.1 e4
    exact br_t (by rw [e4]; rfl) ⟨vN, nm_r (e' := nI m) (by rw [bg_cN hN, hw e4, s1, lN_i]) (Exists.intro (m + 2) (bg_y335 hB hL s2 m 0 p _ (by omega) hp (by omega) k kF))⟩
  · refine br_f (fun e => e4 ((ba_e4 (by omega)).mp e)) ⟨v, ?_⟩
    by_cases e6 : D t = 6
    · have s := hS.2.1 e6
      exact br_t (by rw [e6]; rfl) ⟨v, nm_r (e' := nI m) (by rw [nI_clamp (by omega), sc_b hA, s]) (Exists.intro (m + 2) (bg_y335 hB hL (by omega) m 0 p _ (by omega) hp (by omega) k kF))⟩
    · have s := hS.2.2 e4 e6
      subst s
      exact br_f (fun e => e6 ((ba_e6 (by omega)).mp e)) (Exists.intro 2 (bg_y335 (M := 0) hB hL (by omega) 0 0 p _ (by omega) hp (by omega) k kF))
theorem bg_y279f (hA : sc_A D B P I kk kb kp ki) (ht : t < 20) (hN : N < 400) (hd : d < 400) {f : Int32} (hf : ¬ f = 0) {post : SY → Prop} {z : Int32} (hz : z = if D t < 7 then 0 else 1)
    (k : post (xT, xL, yW, xC, xG, yV, nI (if 7 ≤ D t then d + 1 else d), (if D t = 9 then yR + 1 else yR), yA, f, yO, kk, kb, kp, kf, kn, ki, ka, kg, kh, yb, yw, nu, rs, yt, upd ys N yA, yc, yl, yn, (if D t = 7 then vp_updL yv N 0 else yv), (if 7 ≤ D t then upd yo d (nI N) else yo), (if 7 ≤ D t then upd ym d 0 else ym), (if 7 ≤ D t then upd yf d 0 else yf), tv, tt, tg, yp, yh)) : (wY_begin_279 post (nI t) (nI N) z xT xL yW xC xG yV (nI d) yR yA f yO kk kb kp kf kn ki ka kg kh yb yw nu rs yt ys yc yl yn yv yo ym yf tv tt tg yp yh) := by
  have v : vp_in (nI t) 20 := vp_in_nI ht (by decide)
  have vN : vp_in (nI N) 400 := vp_in_nI hN (by decide)
  refine And.intro vN (nm_r (e' := upd ys N yA) (by rw [bg_cN hN]) ⟨v, br_c (fun _ => ⟨vN, nm_e (Exists.intro 1 (bg_y335w hf (bg_y360 hA ht hN hd hz k)))⟩) (fun _ => ⟨v, br_c (fun _ => ⟨v, nm_e (Exists.intro 1 (bg_y335w hf (bg_y360 hA ht hN hd hz k)))⟩) (fun _ => Exists.intro 1 (bg_y335w hf (bg_y360 hA ht hN hd hz k)))⟩)⟩)
end
end
section
section
variable {xT xL xC xG xV xA xF xD xN xS xK xI yW yV yD yR yA yF yO : Int32} {kk kb kp kn ki ka kh kd kf xb vt va ve xo xt xp xl xd xm xz xu xe xc xf kg yb yw yt ys yc yl yn yo ym yf tv tt tg yp yh : Nat → Int32} {nu rs vn yv : Nat → Int64}
variable {D B P I bb : Nat → Nat} {T L N d p t : Nat}
/-! a value begins, both sides: it is well, or a fault -/
def bg_EX (D : Nat → Nat) (kk kb kp ki xb : Nat → Int32) (N d L p t : Nat) (w : Int64) (p1 m : Nat) : Prop :=
  ∀ (xT xC xG xN xS xK xI : Int32) (kn ka kh kd kf vt va ve xo xt xp xl xd xm xz xu xe xc xf : Nat → Int32) (nu rs vn : Nat → Int64), ∀ post : SX → Prop, post (xT, nI L, xC, xG, nI (N + 1), nI (p1 + m), 0, nI (if 7 ≤ D t then d + 1 else d), (if D t = 9 then xN + 1 else xN), xS, xK, xI, kk, kb, kp, kn, ki, ka, kh, kd, kf, xb, nu, rs, upd vt N (nI t), vp_updL vn N w, upd va N (nI p1), upd ve N (nI (N + 1)), (if 7 ≤ D t then upd xo d (nI N) else xo), (if 7 ≤ D t then upd xt d (nI t) else xt), (if 7 ≤ D t then upd xp d 0 else xp), (if 7 ≤ D t then upd xl d 0 else xl), xd, xm, xz, xu, xe, xc, xf) → (wX_begin_44 post (nI t) xT (nI L) xC xG (nI N) (nI p) 0 (nI d) xN xS xK xI kk kb kp kn ki ka kh kd kf xb nu rs vt vn va ve xo xt xp xl xd xm xz xu xe xc xf)
def bg_EY (D : Nat → Nat) (kk kb kp ki yb : Nat → Int32) (N d L p t : Nat) (w : Int64) (p1 m : Nat) : Prop :=
  ∀ (xT yW xC xG yV yR yO : Int32) (kf kn ka kg kh yw yt ys yc yl yn yo ym yf tv tt tg yp yh : Nat → Int32) (nu rs : Nat → Int64), ∀ yv : Nat → Int64, ∃ yv' : Nat → Int64, (∀ j, j ≠ N → yv' j = yv j) ∧ (bg_K (D t) → yv' N = w) ∧ (D t = 7 → yv' N = 0) ∧
  ∀ post : SY → Prop, post (xT, nI L, yW, xC, xG, yV, nI (if 7 ≤ D t then d + 1 else d), (if D t = 9 then yR + 1 else yR), nI (p1 + m), 0, yO, kk, kb, kp, kf, kn, ki, ka, kg, kh, yb, yw, nu, rs, yt, upd ys N (nI p1), yc, yl, yn, yv', (if 7 ≤ D t then upd yo d (nI N) else yo), (if 7 ≤ D t then upd ym d 0 else ym), (if 7 ≤ D t then upd yf d 0 else yf), tv, tt, tg, yp, yh) → (wY_begin_150 post (nI t) (nI N) xT (nI L) yW xC xG yV (nI d) yR (nI p) 0 yO kk kb kp kf kn ki ka kg kh yb yw nu rs yt ys yc yl yn yv yo ym yf tv tt tg yp yh)
def bg_FX (kk kb kp ki xb : Nat → Int32) (N d L p t : Nat) (f : Int32) : Prop :=
  ∀ (xT xC xG xN xS xK xI : Int32) (kn ka kh kd kf vt va ve xo xt xp xl xd xm xz xu xe xc xf : Nat → Int32) (nu rs vn : Nat → Int64), ∃ sx : rd_SX, ∀ post : SX → Prop, post (xT, nI L, xC, xG, sx.1, sx.2.1, f, sx.2.2.1, sx.2.2.2.1, xS, xK, xI, kk, kb, kp, kn, ki, ka, kh, kd, kf, xb, nu, rs, sx.2.2.2.2.1, sx.2.2.2.2.2.1, sx.2.2.2.2.2.2.1, sx.2.2.2.2.2.2.2.1, sx.2.2.2.2.2.2.2.2.1, sx.2.2.2.2.2.2.2.2.2.1, sx.2.2.2.2.2.2.2.2.2.2.1, sx.2.2.2.2.2.2.2.2.2.2.2, xd, xm, xz, xu, xe, xc, xf) → (wX_begin_44 post (nI t) xT (nI L) xC xG (nI N) (nI p) 0 (nI d) xN xS xK xI kk kb kp kn ki ka kh kd kf xb nu rs vt vn va ve xo xt xp xl xd xm xz xu xe xc xf)
def bg_FY (kk kb kp ki yb : Nat → Int32) (N d L p t : Nat) (f : Int32) : Prop :=
  ∀ (xT yW xC xG yV yR yO : Int32) (kf kn ka kg kh yw yt ys yc yl yn yo ym yf tv tt tg yp yh : Nat → Int32) (nu rs yv : Nat → Int64), ∃ sy : rd_SY, ∀ post : SY → Prop, post (xT, nI L, yW, xC, xG, sy.1, sy.2.1, sy.2.2.1, sy.2.2.2.1, f, yO, kk, kb, kp, kf, kn, ki, ka, kg, kh, yb, yw, nu, rs, sy.2.2.2.2.1, sy.2.2.2.2.2.1, sy.2.2.2.2.2.2.1, sy.2.2.2.2.2.2.2.1, sy.2.2.2.2.2.2.2.2.1, sy.2.2.2.2.2.2.2.2.2.1, sy.2.2.2.2.2.2.2.2.2.2.1, sy.2.2.2.2.2.2.2.2.2.2.2.1, sy.2.2.2.2.2.2.2.2.2.2.2.2, tv, tt, tg, yp, yh) → (wY_begin_150 post (nI t) (nI N) xT (nI L) yW xC xG yV (nI d) yR (nI p) 0 yO kk kb kp kf kn ki ka kg kh yb yw nu rs yt ys yc yl yn yv yo ym yf tv tt tg yp yh)
theorem bg_y150 (hA : sc_A D B P I kk kb kp ki) (ht : t < 20) {post : SY → Prop} (k : ∀ z : Int32, (z = if D t < 7 then 0 else 1) → (wY_begin_166 post (nI t) (nI N) z xT xL yW xC xG yV yD yR yA yF yO kk kb kp kf kn ki ka kg kh yb yw nu rs yt ys yc yl yn yv yo ym yf tv tt tg yp yh)) : (wY_begin_150 post (nI t) (nI N) xT xL yW xC xG yV yD yR yA yF yO kk kb kp kf kn ki ka kg kh yb yw nu rs yt ys yc yl yn yv yo ym yf tv tt tg yp yh) := by
  have h9 := sc_k9 hA t
  refine And.intro (vp_in_nI ht (by decide)) ?_
  rw [bg_ck hA ht rfl]
  by_cases h7 : D t < 7
  · exact br_t ((ba_lt7 (by omega)).mpr h7) (k 0 (by rw [if_pos h7]))
  · exact br_f (fun e => h7 ((ba_lt7 (by omega)).mp e)) (k 1 (by rw [if_neg h7]))
theorem bg_y166n (hA : sc_A D B P I kk kb kp ki) (ht : t < 20) (hN : N < 400) (hk : ¬ bg_K (D t)) {post : SY → Prop} {z : Int32} (h : (wY_begin_279 post (nI t) (nI N) z xT xL yW xC xG yV yD yR yA 0 yO kk kb kp kf kn ki ka kg kh yb yw nu rs yt ys yc yl yn yv yo ym yf tv tt tg yp yh)) : (wY_begin_166 post (nI t) (nI N) z xT xL yW xC xG yV yD yR yA 0 yO kk kb kp kf kn ki ka kg kh yb yw nu rs yt ys yc yl yn yv yo ym yf tv tt tg yp yh) := by
  have h9 := sc_k9 hA t
  unfold bg_K at hk
  refine And.intro (vp_in_nI ht (by decide)) (br_f (by rw [bg_ck hA ht rfl]; exact fun e => by have := (ba_e1 (by omega)).mp e; omega) (bg_y205n hA ht (by omega) (br_t rfl (bg_ck_ok hA ht hN rfl ⟨fun h => by omega, fun h => by omega, fun h => by omega⟩ h))))
theorem bg_sk (hA : sc_A D B P I kk kb kp ki) {w : Int64} (h : bg_H D P t w) : ∃ m, bg_S D B t w m := by
  by_cases e4 : D t = 4
  · obtain ⟨m, h1, h2⟩ := h.1 e4
    exact ⟨m, fun _ => ⟨h2, h1⟩, fun e => by omega, fun a => absurd e4 a⟩
  · by_cases e6 : D t = 6
    · exact ⟨B t, fun e => absurd e e4, fun _ => rfl, fun _ a => absurd e6 a⟩
    · exact ⟨0, fun e => absurd e e4, fun e => absurd e e6, fun _ _ => rfl⟩
theorem bg_main (hA : sc_A D B P I kk kb kp ki) (hB : by_ok xb yb bb) (hL : L ≤ 100) (hp : p ≤ L) (ht : t < 20) (hN : N < 400) (hd : d < 400) :
    (∃ (w : Int64) (p1 m : Nat), p ≤ p1 ∧ p1 + m ≤ L ∧ bg_H D P t w ∧ bg_S D B t w m ∧ bg_EX D kk kb kp ki xb N d L p t w p1 m ∧ bg_EY D kk kb kp ki yb N d L p t w p1 m)
    ∨ (∃ f : Int32, ¬ f = 0 ∧ bg_FX kk kb kp ki xb N d L p t f ∧ bg_FY kk kb kp ki yb N d L p t f) := by
  have h9 := sc_k9 hA t
  by_cases hK : bg_K (D t)
  · have e7 : ¬ D t = 7 := by unfold bg_K at hK; omega
    obtain ⟨w, p1, f, h1, h2, h3, hX, hY⟩ := bg_headK (N := N) hA hB hL hp ht hN hK
    by_cases hf : f = 0
    · subst hf
      obtain ⟨m, hS⟩ := bg_sk hA (h3 rfl)
      by_cases hm : p1 + m ≤ L
      · refine Or.inl ⟨w, p1, m, h1, hm, h3 rfl, hS, ?_, ?_⟩
        · unfold bg_EX
          intro xT xC xG xN xS xK xI kn ka kh kd kf vt va ve xo xt xp xl xd xm xz xu xe xc xf nu rs vn post h
          exact bg_x44 hA hL ht hN hd h2 hS hX (fun _ => h) (fun z => by omega)
        · unfold bg_EY
          intro xT yW xC xG yV yR yO kf kn ka kg kh yw yt ys yc yl yn yo ym yf tv tt tg yp yh nu rs yv
          unfold bg_Y at hY
          obtain ⟨yv', g1, g2, g3⟩ := hY xT yW xC xG yV (nI d) yR yO kf kn ka kg kh yw yt ys yc yl yn yo ym yf tv tt tg yp yh nu rs yv
          refine ⟨yv', g1, fun _ => g2, fun e => absurd e e7, fun post h => bg_y150 hA ht fun z hz => g3 post z (bg_y279 hA hB hL ht hN h2 hS (fun _ => g2) (fun _ => bg_y360 hA ht hN hd hz ?_) (fun z => by omega))⟩
          simp only [if_neg e7]
          exact h
      · refine Or.inr ⟨-2, by decide, ?_, ?_⟩
        · unfold bg_FX
          intro xT xC xG xN xS xK xI kn ka kh kd kf vt va ve xo xt xp xl xd xm xz xu xe xc xf nu rs vn
          exact ⟨(nI (N + 1), nI p1, nI d, xN, upd vt N (nI t), vp_updL vn N w, upd va N (nI p1), upd ve N (nI (N + 1)), xo, xt, xp, xl), fun post h => bg_x44 hA hL ht hN hd h2 hS hX (fun z => by omega) (fun _ => h)⟩
        · unfold bg_FY
          intro xT yW xC xG yV yR yO kf kn ka kg kh yw yt ys yc yl yn yo ym yf tv tt tg yp yh nu rs yv
          unfold bg_Y at hY
          obtain ⟨yv', g1, g2, g3⟩ := hY xT yW xC xG yV (nI d) yR yO kf kn ka kg kh yw yt ys yc yl yn yo ym yf tv tt tg yp yh nu rs yv
          refine ⟨(yV, nI (if 7 ≤ D t then d + 1 else d), (if D t = 9 then yR + 1 else yR), nI L, yt, upd ys N (nI p1), yc, yl, yn, (if D t = 7 then vp_updL yv' N 0 else yv'), (if 7 ≤ D t then upd yo d (nI N) else yo), (if 7 ≤ D t then upd ym d 0 else ym), (if 7 ≤ D t then upd yf d 0 else yf)), fun post h => bg_y150 hA ht fun z hz => g3 post z (bg_y279 hA hB hL ht hN h2 hS (fun _ => g2) (fun z => by omega) (fun _ => bg_y360 hA ht hN hd hz h))⟩
    · refine Or.inr ⟨f, hf, ?_, ?_⟩
      · unfold bg_FX
        intro xT xC xG xN xS xK xI kn ka kh kd kf vt va ve xo xt xp xl xd xm xz xu xe xc xf nu rs vn
        exact ⟨(nI (N + 1), nI p1, nI d, xN, upd vt N (nI t), vp_updL vn N w, upd va N (nI p1), upd ve N (nI (N + 1)), xo, xt, xp, xl), fun post h => bg_x44f ht hN hL h2 hf hX h⟩
      · unfold bg_FY
        intro xT yW xC xG yV yR yO kf kn ka kg kh yw yt ys yc yl yn yo ym yf tv tt tg yp yh nu rs yv
        unfold bg_Y at hY
        obtain ⟨yv', g1, g2, g3⟩ := hY xT yW xC xG yV (nI d) yR yO kf kn ka kg kh yw yt ys yc yl yn yo ym yf tv tt tg yp yh nu rs yv
        exact ⟨(yV, nI (if 7 ≤ D t then d + 1 else d), (if D t = 9 then yR + 1 else yR), nI p1, yt, upd ys N (nI p1), yc, yl, yn, (if D t = 7 then vp_updL yv' N 0 else yv'), (if 7 ≤ D t then upd yo d (nI N) else yo), (if 7 ≤ D t then upd ym d 0 else ym), (if 7 ≤ D t then upd yf d 0 else yf)), fun post h => bg_y150 hA ht fun z hz => g3 post z (bg_y279f hA ht hN hd hf hz h)⟩
  · have hn : D t = 0 ∨ D t = 6 ∨ D t = 7 ∨ D t = 9 := by unfold bg_K at hK; omega
    have hH : bg_H D P t 0 := ⟨fun e => by omega, fun e => by omega, fun _ => rfl⟩
    have hX : bg_X D B P I kk kb kp ki xb L p t 0 p 0 := by
      unfold bg_X
      intro xT xC xG xV xD xN xS xK xI kn ka kh kd kf vt va ve xo xt xp xl xd xm xz xu xe xc xf nu rs vn post h
      exact bg_hn hA ht hn h
    obtain ⟨m, hS⟩ := bg_sk hA hH
    by_cases hm : p + m ≤ L
    · refine Or.inl ⟨0, p, m, by omega, hm, hH, hS, ?_, ?_⟩
      · unfold bg_EX
        intro xT xC xG xN xS xK xI kn ka kh kd kf vt va ve xo xt xp xl xd xm xz xu xe xc xf nu rs vn post h
        exact bg_x44 hA hL ht hN hd hp hS hX (fun _ => h) (fun z => by omega)
      · unfold bg_EY
        intro xT yW xC xG yV yR yO kf kn ka kg kh yw yt ys yc yl yn yo ym yf tv tt tg yp yh nu rs yv
        refine ⟨if D t = 7 then vp_updL yv N 0 else yv, ?_, fun k => absurd k hK, ?_, fun post h => bg_y150 hA ht fun z hz => bg_y166n hA ht hN hK (bg_y279 hA hB hL ht hN hp hS (fun e => by omega) (fun _ => bg_y360 hA ht hN hd hz h) (fun z => by omega))⟩
        · intro j hj
          split
          · exact ba_uLn hj
          · rfl
        · intro e
          rw [if_pos e]; exact ba_uLs
    · refine Or.inr ⟨-2, by decide, ?_, ?_⟩
      · unfold bg_FX
        intro xT xC xG xN xS xK xI kn ka kh kd kf vt va ve xo xt xp xl xd xm xz xu xe xc xf nu rs vn
        exact ⟨(nI (N + 1), nI p, nI d, xN, upd vt N (nI t), vp_updL vn N 0, upd va N (nI p), upd ve N (nI (N + 1)), xo, xt, xp, xl), fun post h => bg_x44 hA hL ht hN hd hp hS hX (fun z => by omega) (fun _ => h)⟩
      · unfold bg_FY
        intro xT yW xC xG yV yR yO kf kn ka kg kh yw yt ys yc yl yn yo ym yf tv tt tg yp yh nu rs yv
        exact ⟨(yV, nI (if 7 ≤ D t then d + 1 else d), (if D t = 9 then yR + 1 else yR), nI L, yt, upd ys N (nI p), yc, yl, yn, (if D t = 7 then vp_updL yv N 0 else yv), (if 7 ≤ D t then upd yo d (nI N) else yo), (if 7 ≤ D t then upd ym d 0 else ym), (if 7 ≤ D t then upd yf d 0 else yf)), fun post h => bg_y150 hA ht fun z hz => bg_y166n hA ht hN hK (bg_y279 hA hB hL ht hN hp hS (fun e => by omega) (fun z => by omega) (fun _ => bg_y360 hA ht hN hd hz h))⟩
end
end
section
section
variable {xT xL xC xG xV xA xF xD xN xS xK xI yW yV yD yR yA yF yO : Int32} {kk kb kp kn ki ka kh kd kf xb vt va ve xo xt xp xl xd xm xz xu xe xc xf kg yb yw yt ys yc yl yn yo ym yf tv tt tg yp yh : Nat → Int32} {nu rs vn yv : Nat → Int64}
variable {D B P I bb : Nat → Nat} {T L N d p t n a : Nat}
/-! a block of an ARRAY begins, both sides -/
theorem bk_40 {a : Nat} (h : a ≤ 40) : (40 : Int64) - lN a = lN (40 - a) := lN_sub (a := 40) h
theorem bk_neg {x : Int64} (h : -1000 ≤ x.toInt ∧ x.toInt ≤ 1000) : (-x).toInt = -x.toInt := by
  rw [Int64.toInt_neg]
  exact Int.bmod_eq_of_le (by omega) (by omega)
def bk_in (r : Int64) (a c : Nat) : Prop := a + c ≤ 40 ∧ ((0 ≤ r ∧ r = lN c) ∨ (¬ 0 ≤ r ∧ -r = lN c))
  ∧ (¬ lN (40 - a) < r ∧ -lN (40 - a) ≤ r) ∧ (¬ r < -40 ∧ ¬ 40 < r ∧ lN a + lN c ≤ 40)
def bk_out (r : Int64) (a : Nat) : Prop := (lN (40 - a) < r ∨ ¬ -lN (40 - a) ≤ r) ∧ (r < -40 ∨ 40 < r ∨ (0 ≤ r ∧ ¬ lN a + r ≤ 40) ∨ (¬ 0 ≤ r ∧ ¬ lN a + -r ≤ 40))
theorem bk_num (r : Int64) {a : Nat} (ha : a ≤ 40) : (∃ c, bk_in r a c) ∨ bk_out r a := by
  have e0 : (0 : Int64).toInt = 0 := by decide
  have e40 : (40 : Int64).toInt = 40 := by decide
  have em40 : (-40 : Int64).toInt = -40 := by decide
  have el : ∀ c : Nat, c ≤ 1000 → (lN c).toInt = c := fun c hc => pk_lT (by omega)
  have eln : (-lN (40 - a)).toInt = -((40 - a : Nat) : Int) := by
    rw [bk_neg (by rw [el _ (by omega)]; omega), el _ (by omega)]
  have r1 := r.le_toInt
  have r2 := r.toInt_lt
  by_cases z : -((40 - a : Nat) : Int) ≤ r.toInt ∧ r.toInt ≤ ((40 - a : Nat) : Int)
  · refine Or.inl ⟨r.toInt.natAbs, by omega, ?_, ⟨?_, ?_⟩, ?_, ?_, ?_⟩
    · by_cases y : 0 ≤ r.toInt
      · refine Or.inl ⟨by rw [Int64.le_iff_toInt_le, e0]; exact y, Int64.toInt_inj.mp ?_⟩
        rw [el _ (by omega)]; omega
      · refine Or.inr ⟨by rw [Int64.le_iff_toInt_le, e0]; exact y, Int64.toInt_inj.mp ?_⟩
        rw [el _ (by omega), bk_neg (by omega)]; omega
    · rw [Int64.lt_iff_toInt_lt, el _ (by omega)]; omega
    · rw [Int64.le_iff_toInt_le, eln]; omega
    · rw [Int64.lt_iff_toInt_lt, em40]; omega
    · rw [Int64.lt_iff_toInt_lt, e40]; omega
    · rw [lN_add, Int64.le_iff_toInt_le, e40, el _ (by omega)]; omega
  · refine Or.inr ⟨?_, ?_⟩
    · rw [Int64.lt_iff_toInt_lt, Int64.le_iff_toInt_le, el _ (by omega), eln]; omega
    · by_cases y1 : r.toInt < -40
      · exact Or.inl (by rw [Int64.lt_iff_toInt_lt, em40]; exact y1)
      · by_cases y2 : 40 < r.toInt
        · exact Or.inr (Or.inl (by rw [Int64.lt_iff_toInt_lt, e40]; exact y2))
        · refine Or.inr (Or.inr ?_)
          by_cases y : 0 ≤ r.toInt
          · refine Or.inl ⟨by rw [Int64.le_iff_toInt_le, e0]; exact y, ?_⟩
            rw [Int64.le_iff_toInt_le, e40, Int64.toInt_add, el _ (by omega), Int.bmod_eq_of_le (by omega) (by omega)]; omega
          · refine Or.inr ⟨by rw [Int64.le_iff_toInt_le, e0]; exact y, ?_⟩
            rw [Int64.le_iff_toInt_le, e40, Int64.toInt_add, el _ (by omega), bk_neg (by omega), Int.bmod_eq_of_le (by omega) (by omega)]; omega
theorem bk_x80 {c : Nat} (hc : c ≤ 40) (hn : n < 400) (hd : 0 < d) (hd4 : d ≤ 400) (hv : vn n = lN a) {post : SX → Prop} (k : post (xT, xL, xC, xG, xV, xA, xF, nI d, xN, xS, xK, xI, kk, kb, kp, kn, ki, ka, kh, kd, kf, xb, nu, rs, vt, vp_updL vn n (lN (a + c)), va, ve, xo, xt, xp, upd xl (d - 1) (nI c), xd, xm, xz, xu, xe, xc, xf)) :
    (wX_block_80 post (nI n) (lN c) (nI d - 1) xT xL xC xG xV xA xF (nI d) xN xS xK xI kk kb kp kn ki ka kh kd kf xb nu rs vt vn va ve xo xt xp xl xd xm xz xu xe xc xf) := by
  unfold wX_block_80
  rw [ba_s1 hd]
  have vd : vp_in (nI (d - 1)) 400 := vp_in_nI (by omega) (by decide)
  have vn' : vp_in (nI n) 400 := vp_in_nI hn (by decide)
  refine ⟨vd, nm_r (e' := upd xl (d - 1) (nI c)) (by rw [nI_clamp (by omega), lN_i, pk_vb, ba_b (by omega)]) ⟨vn', vd, vn', nm_r (e' := vp_updL vn n (lN (a + c))) ?_ k⟩⟩
  rw [nI_clamp (by omega), nI_clamp (by omega), ba_us, hv, nI_l (by omega), lN_add]
theorem bk_y90 {c : Nat} (hc : c ≤ 40) (hn : n < 400) (hd : 0 < d) (hd4 : d ≤ 400) (hv : yv n = lN a) {post : SY → Prop} (k : post (xT, xL, yW, xC, xG, yV, yD, yR, yA, yF, yO, kk, kb, kp, kf, kn, ki, ka, kg, kh, yb, yw, nu, rs, yt, ys, yc, yl, yn, vp_updL yv n (lN (a + c)), yo, ym, upd yf (d - 1) (nI c), tv, tt, tg, yp, yh)) :
    (wY_block_90 post (nI (d - 1)) (nI n) (lN c) (nI (d - 1)) xT xL yW xC xG yV yD yR yA yF yO kk kb kp kf kn ki ka kg kh yb yw nu rs yt ys yc yl yn yv yo ym yf tv tt tg yp yh) := by
  have vd : vp_in (nI (d - 1)) 401 := vp_in_nI (by omega) (by decide)
  have vn' : vp_in (nI n) 400 := vp_in_nI hn (by decide)
  refine And.intro vd (nm_r (e' := upd yf (d - 1) (nI c)) (by rw [nI_clamp (by omega), lN_i]) ⟨vn', vd, vn', nm_r (e' := vp_updL yv n (lN (a + c))) ?_ k⟩)
  rw [nI_clamp (by omega), nI_clamp (by omega), ba_us, hv, nI_l (by omega), lN_add]
/-- X's and Y's blocks that are well -/
def bk_EX (xb : Nat → Int32) (n a d L p c p' : Nat) : Prop :=
  ∀ (xT xC xG xV xN xS xK xI : Int32) (kk kb kp kn ki ka kh kd kf vt va ve xo xt xp xl xd xm xz xu xe xc xf : Nat → Int32) (nu rs : Nat → Int64), ∀ vn : Nat → Int64, vn n = lN a → ∀ post : SX → Prop, post (xT, nI L, xC, xG, xV, nI p', 0, nI d, xN, xS, xK, xI, kk, kb, kp, kn, ki, ka, kh, kd, kf, xb, nu, rs, vt, vp_updL vn n (lN (a + c)), va, ve, xo, xt, xp, upd xl (d - 1) (nI c), xd, xm, xz, xu, xe, xc, xf) → (wpX_block post (xT, nI L, xC, xG, xV, nI p, 0, nI d, xN, xS, xK, xI, kk, kb, kp, kn, ki, ka, kh, kd, kf, xb, nu, rs, vt, vn, va, ve, xo, xt, xp, xl, xd, xm, xz, xu, xe, xc, xf) (nI n))
def bk_EY (yb : Nat → Int32) (n a d L p c p' : Nat) : Prop :=
  ∀ (xT yW xC xG yV yD yR yO : Int32) (kk kb kp kf kn ki ka kg kh yw yt ys yc yl yn yo ym yf tv tt tg yp yh : Nat → Int32) (nu rs : Nat → Int64), ∀ yv : Nat → Int64, yv n = lN a → ∀ post : SY → Prop, post (xT, nI L, yW, xC, xG, yV, yD, yR, nI p', 0, yO, kk, kb, kp, kf, kn, ki, ka, kg, kh, yb, yw, nu, rs, yt, ys, yc, yl, yn, vp_updL yv n (lN (a + c)), yo, ym, upd yf (d - 1) (nI c), tv, tt, tg, yp, yh) → (wpY_block post (xT, nI L, yW, xC, xG, yV, yD, yR, nI p, 0, yO, kk, kb, kp, kf, kn, ki, ka, kg, kh, yb, yw, nu, rs, yt, ys, yc, yl, yn, yv, yo, ym, yf, tv, tt, tg, yp, yh) (nI (d - 1)) (nI n))
def bk_FX (xb : Nat → Int32) (n a d L p : Nat) (f : Int32) : Prop :=
  ∀ (xT xC xG xV xN xS xK xI : Int32) (kk kb kp kn ki ka kh kd kf vt va ve xo xt xp xl xd xm xz xu xe xc xf : Nat → Int32) (nu rs : Nat → Int64), ∀ vn : Nat → Int64, vn n = lN a → ∃ (xA : Int32) (vn' : Nat → Int64) (xl' : Nat → Int32), ∀ post : SX → Prop, post (xT, nI L, xC, xG, xV, xA, f, nI d, xN, xS, xK, xI, kk, kb, kp, kn, ki, ka, kh, kd, kf, xb, nu, rs, vt, vn', va, ve, xo, xt, xp, xl', xd, xm, xz, xu, xe, xc, xf) → (wpX_block post (xT, nI L, xC, xG, xV, nI p, 0, nI d, xN, xS, xK, xI, kk, kb, kp, kn, ki, ka, kh, kd, kf, xb, nu, rs, vt, vn, va, ve, xo, xt, xp, xl, xd, xm, xz, xu, xe, xc, xf) (nI n))
def bk_FY (yb : Nat → Int32) (n a d L p : Nat) (f : Int32) : Prop :=
  ∀ (xT yW xC xG yV yD yR yO : Int32) (kk kb kp kf kn ki ka kg kh yw yt ys yc yl yn yo ym yf tv tt tg yp yh : Nat → Int32) (nu rs : Nat → Int64), ∀ yv : Nat → Int64, yv n = lN a → ∃ (yA : Int32) (yv' : Nat → Int64) (yf' : Nat → Int32), ∀ post : SY → Prop, post (xT, nI L, yW, xC, xG, yV, yD, yR, yA, f, yO, kk, kb, kp, kf, kn, ki, ka, kg, kh, yb, yw, nu, rs, yt, ys, yc, yl, yn, yv', yo, ym, yf', tv, tt, tg, yp, yh) → (wpY_block post (xT, nI L, yW, xC, xG, yV, yD, yR, nI p, 0, yO, kk, kb, kp, kf, kn, ki, ka, kg, kh, yb, yw, nu, rs, yt, ys, yc, yl, yn, yv, yo, ym, yf, tv, tt, tg, yp, yh) (nI (d - 1)) (nI n))
theorem bk_main (hB : by_ok xb yb bb) (hL : L ≤ 100) (hp : p ≤ L) (hn : n < 400) (hd : 0 < d) (hd4 : d ≤ 400) (ha : a ≤ 40) :
    (∃ c p', a + c ≤ 40 ∧ p < p' ∧ p' ≤ L ∧ bk_EX xb n a d L p c p' ∧ bk_EY yb n a d L p c p') ∨ (∃ f : Int32, ¬ f = 0 ∧ bk_FX xb n a d L p f ∧ bk_FY yb n a d L p f) := by
  have hvn : vp_in (nI n) 400 := vp_in_nI hn (by decide)
  have cn : (nI n).toNatClampNeg = n := nI_clamp (by omega)
  obtain ⟨r, p1, f, h1, h2, h3, hX, hY⟩ := lo_long (p := p) hB hL hp
  by_cases hf : f = 0
  · subst hf
    rcases bk_num r ha with ⟨c, hc, hr, hx, hy⟩ | ⟨hx, hy⟩
    · rcases hr with ⟨r0, rc⟩ | ⟨r0, rc⟩
      · refine Or.inl ⟨c, p1, hc, h3 rfl, h2, ?_, ?_⟩
        · unfold bk_EX
          intro xT xC xG xV xN xS xK xI kk kb kp kn ki ka kh kd kf vt va ve xo xt xp xl xd xm xz xu xe xc xf nu rs vn hv post h
          unfold wpX_block
          refine lo_Xe hX (br_t rfl ⟨hvn, nm_r (e' := lN (40 - a)) (by rw [cn, hv, bk_40 ha]) (br_f hx.1 (br_t hx.2 (br_t r0 (br_t r0 ?_))))⟩)
          rw [rc]
          exact bk_x80 (by omega) hn hd hd4 hv h
        · unfold bk_EY
          intro xT yW xC xG yV yD yR yO kk kb kp kf kn ki ka kg kh yw yt ys yc yl yn yo ym yf tv tt tg yp yh nu rs yv hv post h
          unfold wpY_block
          refine lo_Ye hY (br_t rfl (br_f hy.1 (br_f hy.2.1 ⟨hvn, br_t r0 ?_⟩)))
          rw [cn, hv]
          refine br_t (by rw [rc]; exact hy.2.2) (br_t r0 (br_t r0 ?_))
          rw [rc]
          exact bk_y90 (by omega) hn hd hd4 hv h
      · obtain ⟨r2, p2, f2, g1, g2, g3, hX2, hY2⟩ := lo_long (p := p1) hB hL h2
        by_cases hf2 : f2 = 0
        · subst hf2
          refine Or.inl ⟨c, p2, hc, by have := h3 rfl; omega, g2, ?_, ?_⟩
          · unfold bk_EX
            intro xT xC xG xV xN xS xK xI kk kb kp kn ki ka kh kd kf vt va ve xo xt xp xl xd xm xz xu xe xc xf nu rs vn hv post h
            unfold wpX_block
            refine lo_Xe hX (br_t rfl ⟨hvn, nm_r (e' := lN (40 - a)) (by rw [cn, hv, bk_40 ha]) (br_f hx.1 (br_t hx.2 (br_f r0 (lo_Xe hX2 (br_f r0 ?_)))))⟩)
            rw [rc]
            exact bk_x80 (by omega) hn hd hd4 hv h
          · unfold bk_EY
            intro xT yW xC xG yV yD yR yO kk kb kp kf kn ki ka kg kh yw yt ys yc yl yn yo ym yf tv tt tg yp yh nu rs yv hv post h
            unfold wpY_block
            refine lo_Ye hY (br_t rfl (br_f hy.1 (br_f hy.2.1 ⟨hvn, br_f r0 ?_⟩)))
            rw [cn, hv]
            refine br_t (by rw [rc]; exact hy.2.2) (br_f r0 (lo_Ye hY2 (br_f r0 ?_)))
            rw [rc]
            exact bk_y90 (by omega) hn hd hd4 hv h
        · refine Or.inr ⟨f2, hf2, ?_, ?_⟩
          · unfold bk_FX
            intro xT xC xG xV xN xS xK xI kk kb kp kn ki ka kh kd kf vt va ve xo xt xp xl xd xm xz xu xe xc xf nu rs vn hv
            refine ⟨nI p2, vp_updL vn n (lN (a + c)), upd xl (d - 1) (nI c), fun post h => ?_⟩
            unfold wpX_block
            refine lo_Xe hX (br_t rfl ⟨hvn, nm_r (e' := lN (40 - a)) (by rw [cn, hv, bk_40 ha]) (br_f hx.1 (br_t hx.2 (br_f r0 (lo_Xe hX2 (br_f r0 ?_)))))⟩)
            rw [rc]
            exact bk_x80 (by omega) hn hd hd4 hv h
          · unfold bk_FY
            intro xT yW xC xG yV yD yR yO kk kb kp kf kn ki ka kg kh yw yt ys yc yl yn yo ym yf tv tt tg yp yh nu rs yv hv
            refine ⟨nI p2, vp_updL yv n (lN (a + c)), upd yf (d - 1) (nI c), fun post h => ?_⟩
            unfold wpY_block
            refine lo_Ye hY (br_t rfl (br_f hy.1 (br_f hy.2.1 ⟨hvn, br_f r0 ?_⟩)))
            rw [cn, hv]
            refine br_t (by rw [rc]; exact hy.2.2) (br_f r0 (lo_Ye hY2 (br_f r0 ?_)))
            rw [rc]
            exact bk_y90 (by omega) hn hd hd4 hv h
    · refine Or.inr ⟨-4, by decide, ?_, ?_⟩
      · unfold bk_FX
        intro xT xC xG xV xN xS xK xI kk kb kp kn ki ka kh kd kf vt va ve xo xt xp xl xd xm xz xu xe xc xf nu rs vn hv
        refine ⟨nI p1, vn, xl, fun post h => ?_⟩
        unfold wpX_block
        refine lo_Xe hX (br_t rfl ⟨hvn, nm_r (e' := lN (40 - a)) (by rw [cn, hv, bk_40 ha]) ?_⟩)
        by_cases z : lN (40 - a) < r
        · refine br_t z ?_
          unfold wX_block_40
          exact xf_fail h
        · refine br_f z (br_f (hx.resolve_left z) ?_)
          unfold wX_block_40
          exact xf_fail h
      · unfold bk_FY
        intro xT yW xC xG yV yD yR yO kk kb kp kf kn ki ka kg kh yw yt ys yc yl yn yo ym yf tv tt tg yp yh nu rs yv hv
        refine ⟨nI p1, yv, yf, fun post h => ?_⟩
        unfold wpY_block
        refine lo_Ye hY (br_t rfl ?_)
        by_cases z1 : r < -40
        · exact br_t z1 h
        · refine br_f z1 ?_
          by_cases z2 : 40 < r
          · exact br_t z2 h
          · refine br_f z2 ⟨hvn, ?_⟩
            rw [cn, hv]
            rcases (hy.resolve_left z1).resolve_left z2 with ⟨y1, y2⟩ | ⟨y1, y2⟩
            · exact br_t y1 (br_f y2 h)
            · exact br_f y1 (br_f y2 h)
  · refine Or.inr ⟨f, hf, ?_, ?_⟩
    · unfold bk_FX
      intro xT xC xG xV xN xS xK xI kk kb kp kn ki ka kh kd kf vt va ve xo xt xp xl xd xm xz xu xe xc xf nu rs vn hv
      refine ⟨nI p1, vn, xl, fun post h => ?_⟩
      unfold wpX_block
      exact lo_Xe hX (br_f hf h)
    · unfold bk_FY
      intro xT yW xC xG yV yD yR yO kk kb kp kf kn ki ka kg kh yw yt ys yc yl yn yo ym yf tv tt tg yp yh nu rs yv hv
      refine ⟨nI p1, yv, yf, fun post h => ?_⟩
      unfold wpY_block
      exact lo_Ye hY (br_f hf h)
end
end
section
section
/-! the values that are read, as a tree: ghosts over naturals.
N values, d of them begun and not done, p bytes read; ty type, st where its bytes begin, en the next value that is not within, mb its number;
par, idx: whose part, which; cm how many parts have begun, lc the last of them; op what is not done, lf how many elements are to come -/
variable {D B P : Nat → Nat} {T N d p t : Nat} {ty st en mb par idx cm lc op lf : Nat → Nat}
def rd_nch (D P ty mb : Nat → Nat) (v : Nat) : Nat := if D (ty v) = 7 then mb v else if D (ty v) = 8 then 1 else if D (ty v) = 9 then P (ty v) else 0
/-- a value by itself -/
def rd_V (T : Nat) (D B P : Nat → Nat) (N p : Nat) (ty st en mb : Nat → Nat) : Prop :=
  ∀ j, j < N → ty j < T ∧ st j ≤ p ∧ j < en j ∧ en j ≤ N ∧ (D (ty j) = 4 → mb j ≤ 20 ∧ st j + mb j ≤ p) ∧ (D (ty j) = 5 ∨ D (ty j) = 8 → mb j < P (ty j)) ∧ (D (ty j) = 7 → mb j ≤ 40) ∧ (D (ty j) = 6 → st j + B (ty j) ≤ p)
/-- what is not done -/
def rd_O (D P : Nat → Nat) (N d p : Nat) (ty st mb cm op lf : Nat → Nat) : Prop :=
  ∀ i, i < d → op i < N ∧ 7 ≤ D (ty (op i)) ∧ (D (ty (op i)) = 7 → cm (op i) + lf i = mb (op i) ∧ (0 < mb (op i) → st (op i) + 1 ≤ p)) ∧ (D (ty (op i)) = 8 → cm (op i) ≤ 1) ∧ (D (ty (op i)) = 9 → cm (op i) ≤ P (ty (op i)))
/-- one is within the other -/
def rd_C (d : Nat) (par idx cm lc op : Nat → Nat) : Prop :=
  (0 < d → op 0 = 0) ∧ (∀ i k, i < k → k < d → op i < op k) ∧ (∀ i, i + 1 < d → par (op (i + 1)) = op i ∧ idx (op (i + 1)) + 1 = cm (op i) ∧ lc (op i) = op (i + 1))
/-- the innermost -/
def rd_I (N d : Nat) (en par idx cm lc op : Nat → Nat) : Prop :=
  0 < d → (cm (op (d - 1)) = 0 → N = op (d - 1) + 1) ∧ (0 < cm (op (d - 1)) → lc (op (d - 1)) < N ∧ 0 < lc (op (d - 1)) ∧ par (lc (op (d - 1))) = op (d - 1) ∧ idx (lc (op (d - 1))) + 1 = cm (op (d - 1)) ∧ en (lc (op (d - 1))) = N)
/-- parts and wholes -/
def rd_T (D : Nat → Nat) (N : Nat) (ty st en par idx cm : Nat → Nat) : Prop :=
  (∀ v, v < N → 0 < cm v → v + 1 < N ∧ par (v + 1) = v ∧ idx (v + 1) = 0)
  ∧ (∀ s, 0 < s → s < N → par s < s ∧ idx s < cm (par s) ∧ (idx s + 1 < cm (par s) → en s < N ∧ par (en s) = par s ∧ idx (en s) = idx s + 1) ∧ st (par s) + (if D (ty (par s)) = 7 then 1 else 0) ≤ st s)
  ∧ (∀ s s', 0 < s → s < N → 0 < s' → s' < N → par s = par s' → idx s = idx s' → s = s')
/-- what is done is whole -/
def rd_W (D P : Nat → Nat) (N d : Nat) (ty en mb par cm op : Nat → Nat) : Prop :=
  ∀ v, v < N → (∀ i, i < d → op i ≠ v) → cm v = rd_nch D P ty mb v ∧ (∀ s, 0 < s → s < N → par s = v → en s ≤ en v)
def rd_P (T : Nat) (D B P : Nat → Nat) (N d p : Nat) (ty st en mb par idx cm lc op lf : Nat → Nat) : Prop :=
  (d ≤ N ∧ N ≤ 400) ∧ rd_V T D B P N p ty st en mb ∧ rd_O D P N d p ty st mb cm op lf ∧ rd_C d par idx cm lc op ∧ rd_I N d en par idx cm lc op ∧ rd_T D N ty st en par idx cm ∧ rd_W D P N d ty en mb par cm op
theorem rd_ne {f : Nat → Nat} {x j : Nat} (h : j < N) : gh_u f N x j = f j := gh_un (by omega)
/-- a part begins -/
theorem rd_add (h : rd_P T D B P N d p ty st en mb par idx cm lc op lf) (hd : 0 < d) (hN : N < 400) {v p1 p2 m : Nat} (ht : t < T) (hv : op (d - 1) = v) (hp1 : p ≤ p1) (hp2 : p1 ≤ p2)
    (c7 : D (ty v) = 7 → 0 < lf (d - 1)) (c8 : D (ty v) = 8 → cm v = 0) (c9 : D (ty v) = 9 → cm v < P (ty v)) (h9 : D (ty v) ≤ 9)
    (m4 : D t = 4 → m ≤ 20 ∧ p1 + m ≤ p2) (m5 : D t = 5 ∨ D t = 8 → m < P t) (m7 : D t = 7 → m = 0) (m6 : D t = 6 → p1 + B t ≤ p2) :
    rd_P T D B P (N + 1) (if 7 ≤ D t then d + 1 else d) p2 (gh_u ty N t) (gh_u st N p1) (gh_u en N (N + 1)) (gh_u mb N m) (gh_u par N v) (gh_u idx N (cm v)) (gh_u (gh_u cm v (cm v + 1)) N 0) (gh_u lc v N) (gh_u op d N) (gh_u (if D (ty v) = 7 then gh_u lf (d - 1) (lf (d - 1) - 1) else lf) d 0) := by
  obtain ⟨⟨g1, g2⟩, hV, hO, ⟨hC0, hC1, hC2⟩, hI, ⟨hT1, hT2, hT3⟩, hW⟩ := h
  have hI' := hI hd
  rw [hv] at hI'
  obtain ⟨I0, I1⟩ := hI'
  have hOv := hO (d - 1) (by omega)
  rw [hv] at hOv
  obtain ⟨vN, v7, o7, o8, o9⟩ := hOv
  have hVv := hV v vN
  have dd : d ≤ (if 7 ≤ D t then d + 1 else d) := by split <;> omega
  have nv : v ≠ N := by omega
  have cv : gh_u (gh_u cm v (cm v + 1)) N 0 v = cm v + 1 := by rw [gh_un nv, gh_us]
  have cN : gh_u (gh_u cm v (cm v + 1)) N 0 N = 0 := gh_us
  have co : ∀ j, j < N → j ≠ v → gh_u (gh_u cm v (cm v + 1)) N 0 j = cm j := fun j a b => by rw [rd_ne a, gh_un b]
  have ne : ∀ i, i < d - 1 → op i ≠ v := fun i hi e => by have := hC1 i (d - 1) hi (by omega); omega
  generalize gh_u (gh_u cm v (cm v + 1)) N 0 = cm' at cv cN co ⊢
  refine ⟨⟨by split <;> omega, by omega⟩, ?_, ?_, ⟨fun _ => by rw [gh_un (by omega)]; exact hC0 hd, ?_, ?_⟩, ?_, ⟨?_, ?_, ?_⟩, ?_⟩
  · intro j hj
    by_cases e : j = N
    · subst e
      simp only [gh_us]
      exact ⟨ht, hp2, by omega, by omega, m4, m5, fun e => by rw [m7 e]; omega, m6⟩
    · have jN : j < N := by omega
      rw [rd_ne jN, rd_ne jN, rd_ne jN, rd_ne jN]
      obtain ⟨a1, a2, a3, a4, a5, a6, a7, a8⟩ := hV j jN
      exact ⟨a1, by omega, a3, by omega, fun e => by have := a5 e; omega, a6, a7, fun e => by have := a8 e; omega⟩
  · intro i hi
    by_cases e : i = d
    · subst e
      have k7 : 7 ≤ D t := by
        rcases Nat.lt_or_ge (D t) 7 with z | z
        · rw [if_neg (by omega)] at hi; omega
        · exact z
      simp only [gh_us, cN]
      exact ⟨by omega, k7, fun e => ⟨by have := m7 e; omega, fun a => by have := m7 e; omega⟩, fun _ => by omega, fun _ => by omega⟩
    · have id : i < d := by split at hi <;> omega
      obtain ⟨a1, a2, a3, a4, a5⟩ := hO i id
      simp only [gh_un e, rd_ne a1]
      by_cases ei : i = d - 1
      · subst ei
        rw [hv] at a1 a2 ⊢
        rw [cv]
        refine ⟨by omega, v7, fun e7 => ?_, fun e8 => by have := c8 e8; omega, fun e9 => by have := c9 e9; omega⟩
        rw [if_pos e7, gh_us]
        have := o7 e7
        have := c7 e7
        omega
      · have nn := ne i (by omega)
        rw [co _ a1 nn]
        refine ⟨by omega, a2, fun e7 => ?_, a4, a5⟩
        obtain ⟨b1, b2⟩ := a3 e7
        refine ⟨?_, fun q => by have := b2 q; omega⟩
        split
        · rw [gh_un ei]; exact b1
        · exact b1
  · intro i k hik hk
    by_cases e : k = d
    · subst e
      rw [gh_us, gh_un (by omega)]
      exact (hO i hik).1
    · have kd : k < d := by split at hk <;> omega
      rw [gh_un (by omega), gh_un e]
      exact hC1 i k hik kd
  · intro i hi
    by_cases e : i + 1 = d
    · have ei : i = d - 1 := by omega
      have e1 : d - 1 ≠ d := by omega
      rw [e, ei]
      simp only [gh_us, gh_un e1, hv, cv]
      exact ⟨by trivial, by trivial, by trivial⟩
    · have id : i + 1 < d := by split at hi <;> omega
      obtain ⟨a1, a2, a3⟩ := hC2 i id
      have nn := ne i (by omega)
      have b1 := (hO (i + 1) id).1
      have b2 := (hO i (by omega)).1
      rw [gh_un (f := op) e, gh_un (f := op) (by omega), rd_ne b1, rd_ne b1, co _ b2 nn, gh_un nn]
      exact ⟨a1, a2, a3⟩
  · intro _
    by_cases k7 : 7 ≤ D t
    · rw [if_pos k7]
      simp only [Nat.add_sub_cancel, gh_us, cN]
      exact ⟨fun _ => by trivial, fun q => absurd q (by omega)⟩
    · have e1 : d - 1 ≠ d := by omega
      rw [if_neg k7]
      simp only [gh_un e1, hv, cv, gh_us]
      exact ⟨fun q => absurd q (by omega), fun _ => ⟨by omega, by omega, by trivial, by trivial, by trivial⟩⟩
  · intro w hw hc
    by_cases e : w = N
    · rw [e, cN] at hc; omega
    · by_cases ev : w = v
      · rw [ev]
        by_cases z : cm v = 0
        · have := I0 z
          rw [← this, gh_us, gh_us]
          exact ⟨by omega, rfl, z⟩
        · obtain ⟨a1, a2, a3⟩ := hT1 v vN (by omega)
          rw [rd_ne a1, rd_ne a1]
          exact ⟨by omega, a2, a3⟩
      · rw [co w (by omega) ev] at hc
        obtain ⟨a1, a2, a3⟩ := hT1 w (by omega) hc
        rw [rd_ne a1, rd_ne a1]
        exact ⟨by omega, a2, a3⟩
  · intro s hs hsN
    by_cases e : s = N
    · subst e
      simp only [gh_us, cv, rd_ne vN]
      refine ⟨vN, by omega, fun q => absurd q (by omega), ?_⟩
      split
      · rename_i e7
        have := o7 e7
        have := c7 e7
        omega
      · omega
    · have sN : s < N := by omega
      obtain ⟨a1, a2, a3, a4⟩ := hT2 s hs sN
      have pN : par s < N := by omega
      rw [rd_ne (f := par) sN, rd_ne (f := idx) sN, rd_ne (f := en) sN, rd_ne (f := st) sN, rd_ne (f := st) pN, rd_ne (f := ty) pN]
      by_cases ev : par s = v
      · rw [ev, cv]
        rw [ev] at a1 a2 a3 a4
        refine ⟨a1, by omega, fun q => ?_, a4⟩
        by_cases z : idx s + 1 < cm v
        · obtain ⟨b1, b2, b3⟩ := a3 z
          rw [rd_ne b1, rd_ne b1]
          exact ⟨by omega, b2, b3⟩
        · obtain ⟨l1, l2, l3, l4, l5⟩ := I1 (by omega)
          have es : s = lc v := hT3 s (lc v) hs sN l2 l1 (by omega) (by omega)
          rw [es, l5, gh_us, gh_us]
          exact ⟨by omega, rfl, by rw [← es]; omega⟩
      · rw [co _ pN ev]
        refine ⟨a1, a2, fun q => ?_, a4⟩
        obtain ⟨b1, b2, b3⟩ := a3 q
        rw [rd_ne b1, rd_ne b1]
        exact ⟨by omega, b2, b3⟩
  · intro s s' hs hsN hs' hsN' e1 e2
    by_cases e : s = N
    · by_cases e' : s' = N
      · omega
      · exfalso
        have sN : s' < N := by omega
        obtain ⟨a1, a2, -, -⟩ := hT2 s' hs' sN
        rw [e, gh_us, rd_ne sN] at e1 e2
        rw [← e1] at a2
        omega
    · have sN : s < N := by omega
      obtain ⟨a1, a2, -, -⟩ := hT2 s hs sN
      by_cases e' : s' = N
      · exfalso
        rw [e', gh_us, rd_ne sN] at e1 e2
        rw [e1] at a2
        omega
      · have sN' : s' < N := by omega
        rw [rd_ne sN, rd_ne sN'] at e1 e2
        exact hT3 s s' hs sN hs' sN' e1 e2
  · intro w hw ho
    by_cases e : w = N
    · have k7 : ¬ 7 ≤ D t := fun q => by
        have := ho d (by rw [if_pos q]; omega)
        rw [gh_us] at this
        exact this e.symm
      subst e
      refine ⟨?_, fun s hs hsN hp => ?_⟩
      · rw [cN]; unfold rd_nch
        rw [gh_us, if_neg (by omega), if_neg (by omega), if_neg (by omega)]
      · exfalso
        by_cases es : s = w
        · rw [es, gh_us] at hp; omega
        · have sN : s < w := by omega
          rw [rd_ne sN] at hp
          have := (hT2 s hs sN).1
          omega
    · have wN : w < N := by omega
      have ho' : ∀ i, i < d → op i ≠ w := fun i hi => by
        have := ho i (by omega)
        rw [gh_un (by omega)] at this
        exact this
      have wv : w ≠ v := fun q => ho' (d - 1) (by omega) (by rw [hv, q])
      obtain ⟨a1, a2⟩ := hW w wN ho'
      refine ⟨?_, fun s hs hsN hp => ?_⟩
      · rw [co w wN wv, a1]
        unfold rd_nch
        rw [rd_ne wN, rd_ne wN]
      · by_cases es : s = N
        · rw [es, gh_us] at hp; omega
        · have sN : s < N := by omega
          rw [rd_ne sN] at hp
          rw [rd_ne sN, rd_ne wN]
          exact a2 s hs sN hp
/-- the innermost is done -/
theorem rd_close (h : rd_P T D B P N d p ty st en mb par idx cm lc op lf) (hd : 0 < d) {v : Nat} (hv : op (d - 1) = v) (hc : cm v = rd_nch D P ty mb v) :
    rd_P T D B P N (d - 1) p ty st (gh_u en v N) mb par idx cm lc op lf := by
  obtain ⟨⟨g1, g2⟩, hV, hO, ⟨hC0, hC1, hC2⟩, hI, ⟨hT1, hT2, hT3⟩, hW⟩ := h
  have vN : v < N := by have := (hO (d - 1) (by omega)).1; omega
  refine ⟨⟨by omega, g2⟩, ?_, fun i hi => hO i (by omega), ⟨fun _ => hC0 hd, fun i k a b => hC1 i k a (by omega), fun i a => hC2 i (by omega)⟩, ?_, ⟨hT1, ?_, hT3⟩, ?_⟩
  · intro j hj
    obtain ⟨a1, a2, a3, a4, a5⟩ := hV j hj
    by_cases e : j = v
    · rw [e, gh_us]; rw [e] at a1 a2 a5
      exact ⟨a1, a2, vN, by omega, a5⟩
    · rw [gh_un e]; exact ⟨a1, a2, a3, a4, a5⟩
  · intro hd1
    obtain ⟨a1, a2, a3⟩ := hC2 (d - 1 - 1) (by omega)
    have e : d - 1 - 1 + 1 = d - 1 := by omega
    rw [e, hv] at a1 a2 a3
    have lt := hC1 (d - 1 - 1) (d - 1) (by omega) (by omega)
    rw [hv] at lt
    refine ⟨fun q => by omega, fun _ => ?_⟩
    rw [a3, gh_us]
    exact ⟨vN, by omega, a1, a2, rfl⟩
  · intro s hs hsN
    obtain ⟨a1, a2, a3, a4⟩ := hT2 s hs hsN
    refine ⟨a1, a2, fun q => ?_, a4⟩
    by_cases e : s = v
    · exfalso
      subst e
      by_cases z : d = 1
      · have := hC0 hd
        rw [z] at hv
        have hv' : op 0 = s := hv
        omega
      · obtain ⟨b1, b2, b3⟩ := hC2 (d - 1 - 1) (by omega)
        have e : d - 1 - 1 + 1 = d - 1 := by omega
        rw [e, hv] at b1 b2 b3
        rw [b1] at q
        omega
    · rw [gh_un e]; exact a3 q
  · intro w hw ho
    by_cases e : w = v
    · subst e
      refine ⟨hc, fun s hs hsN hp => ?_⟩
      have := (hT2 s hs hsN).1
      rw [gh_us, gh_un (by omega)]
      exact (hV s hsN).2.2.2.1
    · have ho' : ∀ i, i < d → op i ≠ w := fun i hi => by
        by_cases ei : i = d - 1
        · rw [ei, hv]; exact fun q => e q.symm
        · exact ho i (by omega)
      obtain ⟨a1, a2⟩ := hW w hw ho'
      refine ⟨a1, fun s hs hsN hp => ?_⟩
      rw [gh_un e]
      by_cases es : s = v
      · exfalso
        subst es
        by_cases z : d = 1
        · have := hC0 hd
          rw [z] at hv
          have hv' : op 0 = s := hv
          omega
        · obtain ⟨b1, b2, b3⟩ := hC2 (d - 1 - 1) (by omega)
          have e : d - 1 - 1 + 1 = d - 1 := by omega
          rw [e, hv] at b1
          exact ho (d - 1 - 1) (by omega) (by omega)
      · rw [gh_un es]; exact a2 s hs hsN hp
/-- a block begins -/
theorem rd_block (h : rd_P T D B P N d p ty st en mb par idx cm lc op lf) (hd : 0 < d) {v p' c : Nat} (hv : op (d - 1) = v) (h7 : D (ty v) = 7) (h0 : lf (d - 1) = 0) (hc : mb v + c ≤ 40) (hp : p < p') :
    rd_P T D B P N d p' ty st en (gh_u mb v (mb v + c)) par idx cm lc op (gh_u lf (d - 1) c) := by
  obtain ⟨⟨g1, g2⟩, hV, hO, ⟨hC0, hC1, hC2⟩, hI, ⟨hT1, hT2, hT3⟩, hW⟩ := h
  have hvN : v < N := by have := (hO (d - 1) (by omega)).1; omega
  refine ⟨⟨g1, g2⟩, ?_, ?_, ⟨hC0, hC1, hC2⟩, hI, ⟨hT1, hT2, hT3⟩, ?_⟩
  · intro j hj
    obtain ⟨a1, a2, a3, a4, a5, a6, a7, a8⟩ := hV j hj
    by_cases e : j = v
    · rw [e, gh_us]
      rw [e] at a1 a2 a3 a4 a8
      exact ⟨a1, by omega, a3, a4, fun q => by omega, fun q => by omega, fun _ => hc, fun q => by omega⟩
    · rw [gh_un e]
      exact ⟨a1, by omega, a3, a4, fun q => by have := a5 q; omega, a6, a7, fun q => by have := a8 q; omega⟩
  · intro i hi
    obtain ⟨a1, a2, a3, a4, a5⟩ := hO i hi
    by_cases ei : i = d - 1
    · subst ei
      rw [hv, gh_us, gh_us]
      rw [hv] at a1 a2 a3 a4 a5
      have q := a3 h7
      have := (hV v hvN).2.1
      exact ⟨a1, a2, fun _ => ⟨by omega, fun _ => by omega⟩, a4, a5⟩
    · have := hC1 i (d - 1) (by omega) (by omega)
      rw [gh_un ei, gh_un (by omega)]
      exact ⟨a1, a2, fun q => ⟨(a3 q).1, fun z => by have := (a3 q).2 z; omega⟩, a4, a5⟩
  · intro w hw ho
    have e : w ≠ v := fun q => ho (d - 1) (by omega) (by rw [hv, q])
    obtain ⟨a1, a2⟩ := hW w hw ho
    refine ⟨?_, a2⟩
    rw [a1]
    unfold rd_nch
    rw [gh_un e]
/-- the first value begins -/
theorem rd_root {p1 p2 m : Nat} (ht : t < T) (hp2 : p1 ≤ p2)
    (m4 : D t = 4 → m ≤ 20 ∧ p1 + m ≤ p2) (m5 : D t = 5 ∨ D t = 8 → m < P t) (m7 : D t = 7 → m = 0) (m6 : D t = 6 → p1 + B t ≤ p2) :
    rd_P T D B P 1 (if 7 ≤ D t then 1 else 0) p2 (fun _ => t) (fun _ => p1) (fun _ => 1) (fun _ => m) (fun _ => 0) (fun _ => 0) (fun _ => 0) (fun _ => 0) (fun _ => 0) (fun _ => 0) := by
  have dd : ∀ i, i < (if 7 ≤ D t then 1 else 0) → 7 ≤ D t ∧ i = 0 := fun i hi => by
    split at hi
    · exact ⟨by assumption, by omega⟩
    · omega
  refine ⟨⟨by split <;> omega, by omega⟩, ?_, ?_, ⟨fun _ => rfl, ?_, ?_⟩, ?_, ⟨?_, ?_, ?_⟩, ?_⟩
  · intro j hj
    exact ⟨ht, hp2, by show j < 1; omega, by show 1 ≤ 1; omega, m4, m5, fun e => by show m ≤ 40; have := m7 e; omega, m6⟩
  · intro i hi
    obtain ⟨a, b⟩ := dd i hi
    exact ⟨by show 0 < 1; omega, a, fun e => ⟨by show 0 + 0 = m; have := m7 e; omega, fun (q : 0 < m) => by have := m7 e; omega⟩, fun _ => by show 0 ≤ 1; omega, fun _ => by show 0 ≤ P t; omega⟩
  · intro i k a b
    have := dd k b; omega
  · intro i a
    have := dd _ a; omega
  · intro _
    exact ⟨fun _ => rfl, fun (q : 0 < 0) => by omega⟩
  · intro v hv (q : 0 < 0); omega
  · intro s hs hs1; omega
  · intro s s' hs hs1; omega
  · intro v hv ho
    refine ⟨?_, fun s hs hs1 => by omega⟩
    have k7 : ¬ 7 ≤ D t := fun q => ho 0 (by rw [if_pos q]; omega) (by show 0 = v; omega)
    show 0 = (if D t = 7 then m else if D t = 8 then 1 else if D t = 9 then P t else 0)
    rw [if_neg (by omega), if_neg (by omega), if_neg (by omega)]
end
end
section
section
variable {xT xL xC xG xV xA xF xD xN xS xK xI yW yV yD yR yA yF yO : Int32} {kk kb kp kn ki ka kh kd kf xb vt va ve xo xt xp xl xd xm xz xu xe xc xf kg yb yw yt ys yc yl yn yo ym yf tv tt tg yp yh : Nat → Int32} {nu rs vn yv : Nat → Int64}
variable {D B P : Nat → Nat} {T N d p t : Nat} {ty st en mb par idx cm lc op lf : Nat → Nat}
/-! how X and Y hold the tree -/
def rr_A (N : Nat) (ty st en : Nat → Nat) (vt va ve yt ys : Nat → Int32) : Prop := ∀ j, j < N → vt j = nI (ty j) ∧ va j = nI (st j) ∧ ve j = nI (en j) ∧ yt j = nI (ty j) ∧ ys j = nI (st j)
def rr_B (D : Nat → Nat) (N : Nat) (ty mb : Nat → Nat) (vn yv : Nat → Int64) : Prop :=
  ∀ j, j < N → (D (ty j) = 0 → vn j = 0) ∧ (D (ty j) = 1 ∨ D (ty j) = 2 ∨ D (ty j) = 3 → yv j = vn j) ∧ (D (ty j) = 4 ∨ D (ty j) = 5 ∨ D (ty j) = 7 ∨ D (ty j) = 8 → vn j = lN (mb j) ∧ yv j = lN (mb j))
def rr_C (N : Nat) (en par idx cm : Nat → Nat) (yc yn : Nat → Int32) : Prop :=
  (∀ j, j < N → (cm j = 0 → yc j = -1) ∧ (0 < cm j → yc j = nI (j + 1))) ∧ (∀ s, 0 < s → s < N → idx s + 1 < cm (par s) → yn s = nI (en s))
def rr_S (D : Nat → Nat) (d : Nat) (ty cm lc op lf : Nat → Nat) (xo xt xp xl yo yl ym yf : Nat → Int32) : Prop :=
  ∀ i, i < d → xo i = nI (op i) ∧ yo i = nI (op i) ∧ xt i = nI (ty (op i)) ∧ (D (ty (op i)) = 7 → xl i = nI (lf i) ∧ yf i = nI (lf i)) ∧ (¬ D (ty (op i)) = 7 → xp i = nI (cm (op i)) ∧ ym i = nI (cm (op i))) ∧ (0 < cm (op i) → yl (op i) = nI (lc (op i)))
def rr_R (D : Nat → Nat) (N d : Nat) (ty st en mb par idx cm lc op lf : Nat → Nat) (vt va ve xo xt xp xl yt ys yc yl yn yo ym yf : Nat → Int32) (vn yv : Nat → Int64) : Prop :=
  rr_A N ty st en vt va ve yt ys ∧ rr_B D N ty mb vn yv ∧ rr_C N en par idx cm yc yn ∧ rr_S D d ty cm lc op lf xo xt xp xl yo yl ym yf
theorem rr_add (h : rd_P T D B P N d p ty st en mb par idx cm lc op lf) (R : rr_R D N d ty st en mb par idx cm lc op lf vt va ve xo xt xp xl yt ys yc yl yn yo ym yf vn yv) (hd : 0 < d) {v p1 m : Nat} (hv : op (d - 1) = v)
    {w : Int64} {yv' : Nat → Int64} {xp1 xl1 ym1 yf1 yc1 yn1 : Nat → Int32}
    (w0 : D t = 0 → w = 0) (wK : bg_K (D t) → yv' N = w) (wm : D t = 4 ∨ D t = 5 ∨ D t = 7 ∨ D t = 8 → w = lN m) (w7 : D t = 7 → yv' N = 0 ∧ m = 0) (hyv : ∀ j, j ≠ N → yv' j = yv j)
    (x7 : D (ty v) = 7 → (∀ i, i ≠ d - 1 → xl1 i = xl i ∧ yf1 i = yf i) ∧ xl1 (d - 1) = nI (lf (d - 1) - 1) ∧ yf1 (d - 1) = nI (lf (d - 1) - 1) ∧ xp1 = xp ∧ (∀ i, i ≠ d - 1 → ym1 i = ym i))
    (x8 : ¬ D (ty v) = 7 → (∀ i, i ≠ d - 1 → xp1 i = xp i ∧ ym1 i = ym i) ∧ xp1 (d - 1) = nI (cm v + 1) ∧ ym1 (d - 1) = nI (cm v + 1) ∧ xl1 = xl ∧ (∀ i, i ≠ d - 1 → yf1 i = yf i))
    (cc : ∀ j, j ≠ N → j ≠ v → yc1 j = yc j) (cN : yc1 N = -1) (cv : yc1 v = if cm v = 0 then nI N else yc v)
    (nn : ∀ s, s < N → (cm v = 0 ∨ s ≠ lc v) → yn1 s = yn s) (nl : 0 < cm v → yn1 (lc v) = nI N) :
    rr_R D (N + 1) (if 7 ≤ D t then d + 1 else d) (gh_u ty N t) (gh_u st N p1) (gh_u en N (N + 1)) (gh_u mb N m) (gh_u par N v) (gh_u idx N (cm v)) (gh_u (gh_u cm v (cm v + 1)) N 0) (gh_u lc v N) (gh_u op d N) (gh_u (if D (ty v) = 7 then gh_u lf (d - 1) (lf (d - 1) - 1) else lf) d 0)
      (upd vt N (nI t)) (upd va N (nI p1)) (upd ve N (nI (N + 1))) (if 7 ≤ D t then upd xo d (nI N) else xo) (if 7 ≤ D t then upd xt d (nI t) else xt) (if 7 ≤ D t then upd xp1 d 0 else xp1) (if 7 ≤ D t then upd xl1 d 0 else xl1)
      (upd yt N (nI t)) (upd ys N (nI p1)) yc1 (upd yl v (nI N)) yn1 (if 7 ≤ D t then upd yo d (nI N) else yo) (if 7 ≤ D t then upd ym1 d 0 else ym1) (if 7 ≤ D t then upd yf1 d 0 else yf1) (vp_updL vn N w) yv' := by
  obtain ⟨⟨g1, g2⟩, hV, hO, ⟨hC0, hC1, hC2⟩, hI, ⟨hT1, hT2, hT3⟩, hW⟩ := h
  obtain ⟨rA, rB, ⟨rC1, rC2⟩, rS⟩ := R
  have hI' := hI hd
  rw [hv] at hI'
  obtain ⟨I0, I1⟩ := hI'
  have hOv := hO (d - 1) (by omega)
  rw [hv] at hOv
  obtain ⟨hvN, v7, o7, o8, o9⟩ := hOv
  have nv : v ≠ N := by omega
  have gv : gh_u (gh_u cm v (cm v + 1)) N 0 v = cm v + 1 := by rw [gh_un nv, gh_us]
  have gN : gh_u (gh_u cm v (cm v + 1)) N 0 N = 0 := gh_us
  have go : ∀ j, j < N → j ≠ v → gh_u (gh_u cm v (cm v + 1)) N 0 j = cm j := fun j a b => by rw [rd_ne a, gh_un b]
  generalize gh_u (gh_u cm v (cm v + 1)) N 0 = cm' at gv gN go ⊢
  refine ⟨?_, ?_, ⟨?_, ?_⟩, ?_⟩
  · intro j hj
    by_cases e : j = N
    · subst e
      simp only [gh_us, ba_us]
      exact ⟨by trivial, by trivial, by trivial, by trivial, by trivial⟩
    · have jN : j < N := by omega
      simp only [rd_ne jN, ba_un e]
      exact rA j jN
  · intro j hj
    by_cases e : j = N
    · subst e
      simp only [gh_us, ba_uLs]
      refine ⟨w0, fun q => wK (by unfold bg_K; omega), fun q => ⟨wm q, ?_⟩⟩
      by_cases e7 : D t = 7
      · rw [(w7 e7).1, (w7 e7).2]; rfl
      · rw [wK (by unfold bg_K; omega), wm q]
    · have jN : j < N := by omega
      simp only [rd_ne jN, ba_uLn e, hyv j e]
      exact rB j jN
  · intro j hj
    by_cases e : j = N
    · subst e
      exact ⟨fun _ => cN, fun q => by rw [gN] at q; omega⟩
    · by_cases ev : j = v
      · rw [ev, gv, cv]
        refine ⟨fun q => by omega, fun _ => ?_⟩
        split
        · rename_i z; rw [I0 z]
        · rename_i z; exact (rC1 v hvN).2 (by omega)
      · rw [go j (by omega) ev, cc j e ev]
        exact rC1 j (by omega)
  · intro s hs hsN q
    by_cases e : s = N
    · subst e
      rw [gh_us, gh_us, gv] at q; omega
    · have sN : s < N := by omega
      obtain ⟨a1, a2, a3, a4⟩ := hT2 s hs sN
      rw [rd_ne sN, rd_ne sN] at q
      rw [rd_ne sN]
      by_cases ev : par s = v
      · rw [ev, gv] at q
        by_cases z : idx s + 1 < cm v
        · have ns : s ≠ lc v := fun es => by
            obtain ⟨l1, l2, l3, l4, l5⟩ := I1 (by omega)
            rw [← es] at l4
            omega
          rw [nn s sN (Or.inr ns)]
          exact rC2 s hs sN (by rw [ev]; exact z)
        · obtain ⟨l1, l2, l3, l4, l5⟩ := I1 (by omega)
          have es : s = lc v := hT3 s (lc v) hs sN l2 l1 (by omega) (by omega)
          rw [es, nl (by omega), l5]
      · rw [go _ (by omega) ev] at q
        have ns : cm v = 0 ∨ s ≠ lc v := by
          by_cases z : cm v = 0
          · exact Or.inl z
          · exact Or.inr fun es => ev (by rw [es]; exact (I1 (by omega)).2.2.1)
        rw [nn s sN ns]
        exact rC2 s hs sN q
  · intro i hi
    by_cases e : i = d
    · have k7 : 7 ≤ D t := by
        rcases Nat.lt_or_ge (D t) 7 with z | z
        · rw [if_neg (by omega)] at hi; omega
        · exact z
      subst e
      simp only [if_pos k7, gh_us, ba_us, gN]
      exact ⟨by trivial, by trivial, by trivial, fun _ => ⟨rfl, rfl⟩, fun _ => ⟨rfl, rfl⟩, fun q => absurd q (by omega)⟩
    · have id : i < d := by split at hi <;> omega
      have J : xo i = nI (op i) ∧ yo i = nI (op i) ∧ xt i = nI (ty (op i)) ∧ (D (ty (op i)) = 7 → xl1 i = nI ((if D (ty v) = 7 then gh_u lf (d - 1) (lf (d - 1) - 1) else lf) i) ∧ yf1 i = nI ((if D (ty v) = 7 then gh_u lf (d - 1) (lf (d - 1) - 1) else lf) i)) ∧ (¬ D (ty (op i)) = 7 → xp1 i = nI (cm' (op i)) ∧ ym1 i = nI (cm' (op i))) ∧ (0 < cm' (op i) → upd yl v (nI N) (op i) = nI (gh_u lc v N (op i))) := by
        obtain ⟨a1, a2, a3, a4, a5, a6⟩ := rS i id
        have oN := (hO i id).1
        by_cases ei : i = d - 1
        · subst ei
          rw [hv] at a1 a2 a3 a4 a5 a6 ⊢
          rw [gv, ba_us, gh_us]
          refine ⟨a1, a2, a3, fun q => ?_, fun q => ?_, fun _ => rfl⟩
          · rw [if_pos q, gh_us]
            exact ⟨(x7 q).2.1, (x7 q).2.2.1⟩
          · exact ⟨(x8 q).2.1, (x8 q).2.2.1⟩
        · have ne : op i ≠ v := fun q => by have := hC1 i (d - 1) (by omega) (by omega); omega
          rw [go _ oN ne, ba_un ne, gh_un ne]
          refine ⟨a1, a2, a3, fun q => ?_, fun q => ?_, a6⟩
          · by_cases z : D (ty v) = 7
            · rw [if_pos z, gh_un ei, ((x7 z).1 i ei).1, ((x7 z).1 i ei).2]; exact a4 q
            · rw [if_neg z, (x8 z).2.2.2.1, (x8 z).2.2.2.2 i ei]; exact a4 q
          · by_cases z : D (ty v) = 7
            · rw [(x7 z).2.2.2.1, (x7 z).2.2.2.2 i ei]; exact a5 q
            · rw [((x8 z).1 i ei).1, ((x8 z).1 i ei).2]; exact a5 q
      have oN := (hO i id).1
      by_cases k7 : 7 ≤ D t
      · simp only [if_pos k7, ba_un e, gh_un e, rd_ne oN]
        exact J
      · simp only [if_neg k7, gh_un e, rd_ne oN]
        exact J
theorem rr_close (h : rd_P T D B P N d p ty st en mb par idx cm lc op lf) (R : rr_R D N d ty st en mb par idx cm lc op lf vt va ve xo xt xp xl yt ys yc yl yn yo ym yf vn yv) (hd : 0 < d) {v : Nat} (hv : op (d - 1) = v) :
    rr_R D N (d - 1) ty st (gh_u en v N) mb par idx cm lc op lf vt va (upd ve v (nI N)) xo xt xp xl yt ys yc yl yn yo ym yf vn yv := by
  obtain ⟨rA, rB, ⟨rC1, rC2⟩, rS⟩ := R
  refine ⟨?_, rB, ⟨rC1, ?_⟩, fun i hi => rS i (by omega)⟩
  · intro j hj
    obtain ⟨a1, a2, a3, a4, a5⟩ := rA j hj
    by_cases e : j = v
    · rw [e, ba_us, gh_us]; rw [e] at a1 a2 a4 a5
      exact ⟨a1, a2, rfl, a4, a5⟩
    · rw [ba_un e, gh_un e]; exact ⟨a1, a2, a3, a4, a5⟩
  · intro s hs hsN q
    have e : s ≠ v := fun e => by
      obtain ⟨⟨g1, g2⟩, hV, hO, ⟨hC0, hC1, hC2⟩, hI, hT, hW⟩ := h
      subst e
      by_cases z : d = 1
      · have := hC0 hd
        rw [z] at hv
        have hv' : op 0 = s := hv
        omega
      · obtain ⟨b1, b2, b3⟩ := hC2 (d - 1 - 1) (by omega)
        have e : d - 1 - 1 + 1 = d - 1 := by omega
        rw [e, hv] at b1 b2 b3
        rw [b1] at q
        omega
    rw [gh_un e]; exact rC2 s hs hsN q
theorem rr_block (h : rd_P T D B P N d p ty st en mb par idx cm lc op lf) (R : rr_R D N d ty st en mb par idx cm lc op lf vt va ve xo xt xp xl yt ys yc yl yn yo ym yf vn yv) (hd : 0 < d) {v c : Nat} (hv : op (d - 1) = v) :
    rr_R D N d ty st en (gh_u mb v (mb v + c)) par idx cm lc op (gh_u lf (d - 1) c) vt va ve xo xt xp (upd xl (d - 1) (nI c)) yt ys yc yl yn yo ym (upd yf (d - 1) (nI c)) (vp_updL vn v (lN (mb v + c))) (vp_updL yv v (lN (mb v + c))) := by
  obtain ⟨⟨g1, g2⟩, hV, hO, ⟨hC0, hC1, hC2⟩, hI, hT, hW⟩ := h
  obtain ⟨rA, rB, rC, rS⟩ := R
  have v7 := (hO (d - 1) (by omega)).2.1
  rw [hv] at v7
  refine ⟨rA, ?_, rC, ?_⟩
  · intro j hj
    by_cases e : j = v
    · rw [e, ba_uLs, ba_uLs, gh_us]
      exact ⟨fun q => by omega, fun q => by omega, fun _ => ⟨rfl, rfl⟩⟩
    · rw [ba_uLn e, ba_uLn e, gh_un e]; exact rB j hj
  · intro i hi
    obtain ⟨a1, a2, a3, a4, a5, a6⟩ := rS i hi
    by_cases ei : i = d - 1
    · rw [ei, ba_us, ba_us, gh_us]; rw [ei] at a1 a2 a3 a5 a6
      exact ⟨a1, a2, a3, fun _ => ⟨rfl, rfl⟩, a5, a6⟩
    · rw [ba_un ei, ba_un ei, gh_un ei]; exact ⟨a1, a2, a3, a4, a5, a6⟩
end
end
section
section
variable {xT xL xC xG xV xA xF xD xN xS xK xI yW yV yD yR yA yF yO : Int32} {kk kb kp kn ki ka kh kd kf xb vt va ve xo xt xp xl xd xm xz xu xe xc xf kg yb yw yt ys yc yl yn yo ym yf tv tt tg yp yh : Nat → Int32} {nu rs vn yv : Nat → Int64}
variable {D B P I bb : Nat → Nat} {T L N d p t : Nat} {ty st en mb par idx cm lc op lf : Nat → Nat}
/-- reading is under way, and well, with M steps at most to come -/
def go_G (T L : Nat) (D B P : Nat → Nat) (M : Nat) (sx : rd_SX) (sy : rd_SY) : Prop :=
  ∃ (N d p : Nat) (ty st en mb par idx cm lc op lf : Nat → Nat), 0 < N ∧ p ≤ L ∧ M = 2 * (400 - N) + d ∧ rd_P T D B P N d p ty st en mb par idx cm lc op lf
    ∧ rr_R D N d ty st en mb par idx cm lc op lf sx.2.2.2.2.1 sx.2.2.2.2.2.2.1 sx.2.2.2.2.2.2.2.1 sx.2.2.2.2.2.2.2.2.1 sx.2.2.2.2.2.2.2.2.2.1 sx.2.2.2.2.2.2.2.2.2.2.1 sx.2.2.2.2.2.2.2.2.2.2.2 sy.2.2.2.2.1 sy.2.2.2.2.2.1 sy.2.2.2.2.2.2.1 sy.2.2.2.2.2.2.2.1 sy.2.2.2.2.2.2.2.2.1 sy.2.2.2.2.2.2.2.2.2.2.1 sy.2.2.2.2.2.2.2.2.2.2.2.1 sy.2.2.2.2.2.2.2.2.2.2.2.2 sx.2.2.2.2.2.1 sy.2.2.2.2.2.2.2.2.2.1
    ∧ sx.1 = nI N ∧ sx.2.1 = nI p ∧ sx.2.2.1 = nI d ∧ sy.1 = nI N ∧ sy.2.1 = nI d ∧ sy.2.2.2.1 = nI p ∧ sy.2.2.1 = sx.2.2.2.1
theorem go_beg (hA : sc_A D B P I kk kb kp ki) (hB : by_ok xb yb bb) (hL : L ≤ 100) (hT : T ≤ 20) (hp : p ≤ L) (h : rd_P T D B P N d p ty st en mb par idx cm lc op lf)
    (R : rr_R D N d ty st en mb par idx cm lc op lf vt va ve xo xt xp xl yt ys yc yl yn yo ym yf vn yv) (hd : 0 < d) {v : Nat} (hv : op (d - 1) = v) (ht : t < T)
    {xp1 xl1 ym1 yf1 : Nat → Int32}
    (x7 : D (ty v) = 7 → (∀ i, i ≠ d - 1 → xl1 i = xl i ∧ yf1 i = yf i) ∧ xl1 (d - 1) = nI (lf (d - 1) - 1) ∧ yf1 (d - 1) = nI (lf (d - 1) - 1) ∧ xp1 = xp ∧ (∀ i, i ≠ d - 1 → ym1 i = ym i))
    (x8 : ¬ D (ty v) = 7 → (∀ i, i ≠ d - 1 → xp1 i = xp i ∧ ym1 i = ym i) ∧ xp1 (d - 1) = nI (cm v + 1) ∧ ym1 (d - 1) = nI (cm v + 1) ∧ xl1 = xl ∧ (∀ i, i ≠ d - 1 → yf1 i = yf i))
    (c7 : D (ty v) = 7 → 0 < lf (d - 1)) (c8 : D (ty v) = 8 → cm v = 0) (c9 : D (ty v) = 9 → cm v < P (ty v)) :
    ∃ (f : Int32) (sx : rd_SX) (sy : rd_SY), (f = 0 → ∃ M, M < 2 * (400 - N) + d ∧ go_G T L D B P M sx sy)
      ∧ (∀ post : SX → Prop, post (xT, nI L, xC, xG, sx.1, sx.2.1, f, sx.2.2.1, sx.2.2.2.1, xS, xK, xI, kk, kb, kp, kn, ki, ka, kh, kd, kf, xb, nu, rs, sx.2.2.2.2.1, sx.2.2.2.2.2.1, sx.2.2.2.2.2.2.1, sx.2.2.2.2.2.2.2.1, sx.2.2.2.2.2.2.2.2.1, sx.2.2.2.2.2.2.2.2.2.1, sx.2.2.2.2.2.2.2.2.2.2.1, sx.2.2.2.2.2.2.2.2.2.2.2, xd, xm, xz, xu, xe, xc, xf) → (wpX_begin post (xT, nI L, xC, xG, nI N, nI p, 0, nI d, xN, xS, xK, xI, kk, kb, kp, kn, ki, ka, kh, kd, kf, xb, nu, rs, vt, vn, va, ve, xo, xt, xp1, xl1, xd, xm, xz, xu, xe, xc, xf) (nI t)))
      ∧ (∀ post : SY → Prop, post (xT, nI L, yW, xC, xG, sy.1, sy.2.1, sy.2.2.1, sy.2.2.2.1, f, yO, kk, kb, kp, kf, kn, ki, ka, kg, kh, yb, yw, nu, rs, sy.2.2.2.2.1, sy.2.2.2.2.2.1, sy.2.2.2.2.2.2.1, sy.2.2.2.2.2.2.2.1, sy.2.2.2.2.2.2.2.2.1, sy.2.2.2.2.2.2.2.2.2.1, sy.2.2.2.2.2.2.2.2.2.2.1, sy.2.2.2.2.2.2.2.2.2.2.2.1, sy.2.2.2.2.2.2.2.2.2.2.2.2, tv, tt, tg, yp, yh) → (wpY_begin post (xT, nI L, yW, xC, xG, nI N, nI d, xN, nI p, 0, yO, kk, kb, kp, kf, kn, ki, ka, kg, kh, yb, yw, nu, rs, yt, ys, yc, yl, yn, yv, yo, ym1, yf1, tv, tt, tg, yp, yh) (nI t))) := by
  have hP := h
  obtain ⟨⟨g1, g2⟩, hV, hO, ⟨hC0, hC1, hC2⟩, hI, ⟨hT1, hT2, hT3⟩, hW⟩ := h
  have R' := R
  obtain ⟨rA, rB, ⟨rC1, rC2⟩, rS⟩ := R'
  have hI' := hI hd
  rw [hv] at hI'
  obtain ⟨I0, I1⟩ := hI'
  have hOv := hO (d - 1) (by omega)
  rw [hv] at hOv
  obtain ⟨hvN, v7, o7, o8, o9⟩ := hOv
  have h9 := sc_k9 hA t
  have t20 : t < 20 := by omega
  have vt20 : vp_in (nI t) 20 := vp_in_nI t20 (by decide)
  by_cases hN : N = 400
  · refine ⟨-4, (nI N, nI p, nI d, xN, vt, vn, va, ve, xo, xt, xp1, xl1), (nI N, nI d, xN, nI p, yt, ys, yc, yl, yn, yv, yo, ym1, yf1), fun q => absurd q (by decide), fun post k => ?_, fun post k => ?_⟩
    · exact br_t (by rw [hN]; rfl) (xf_fail k)
    · exact br_t (by rw [hN]; rfl) (br_f (by decide) (br_f (by decide) k))
  have nN : ¬ nI N = 400 := fun q => hN ((ba_e400 (by omega)).mp q)
  by_cases hz : D t = 9 ∧ xN = 10
  · refine ⟨-5, (nI N, nI p, nI d, xN, vt, vn, va, ve, xo, xt, xp1, xl1), (nI N, nI d, xN, nI p, yt, ys, yc, yl, yn, yv, yo, ym1, yf1), fun q => absurd q (by decide), fun post k => ?_, fun post k => ?_⟩
    · exact br_f nN ⟨vt20, br_t (by rw [bg_ck hA t20 hz.1]; rfl) (br_t hz.2 (xf_fail k))⟩
    · exact br_f nN (br_t rfl ⟨vt20, br_t (by rw [bg_ck hA t20 hz.1]; rfl) (br_t hz.2 (br_f (by decide) k))⟩)
  have SX1 : ∀ post : SX → Prop, (wX_begin_44 post (nI t) xT (nI L) xC xG (nI N) (nI p) 0 (nI d) xN xS xK xI kk kb kp kn ki ka kh kd kf xb nu rs vt vn va ve xo xt xp1 xl1 xd xm xz xu xe xc xf) → (wpX_begin post (xT, nI L, xC, xG, nI N, nI p, 0, nI d, xN, xS, xK, xI, kk, kb, kp, kn, ki, ka, kh, kd, kf, xb, nu, rs, vt, vn, va, ve, xo, xt, xp1, xl1, xd, xm, xz, xu, xe, xc, xf) (nI t)) := by
    intro post k
    refine br_f nN ⟨vt20, ?_⟩
    rw [bg_ck hA t20 rfl]
    by_cases e9 : D t = 9
    · exact br_t (by rw [e9]; rfl) (br_f (fun q => hz ⟨e9, q⟩) k)
    · exact br_f (fun q => e9 ((ba_e9 (by omega)).mp q)) k
  have hN4 : N < 400 := by omega
  have cN : (nI N).toNatClampNeg = N := nI_clamp (by omega)
  have cv : (nI v).toNatClampNeg = v := nI_clamp (by omega)
  have vN : vp_in (nI N) 400 := vp_in_nI hN4 (by decide)
  have vv : vp_in (nI v) 400 := vp_in_nI (by omega) (by decide)
  have yov : yo (d - 1) = nI v := by have := (rS (d - 1) (by omega)).2.1; rw [hv] at this; exact this
  have SY1 : ∀ post : SY → Prop, (wY_begin_150 post (nI t) (nI N) xT (nI L) yW xC xG (nI (N + 1)) (nI d) xN (nI p) 0 yO kk kb kp kf kn ki ka kg kh yb yw nu rs (upd yt N (nI t)) ys (if cm v = 0 then upd (upd yc N (-1)) v (nI N) else upd yc N (-1)) (upd yl v (nI N)) (if cm v = 0 then upd yn N (-1) else upd (upd yn N (-1)) (lc v) (nI N)) yv yo ym1 yf1 tv tt tg yp yh) → (wpY_begin post (xT, nI L, yW, xC, xG, nI N, nI d, xN, nI p, 0, yO, kk, kb, kp, kf, kn, ki, ka, kg, kh, yb, yw, nu, rs, yt, ys, yc, yl, yn, yv, yo, ym1, yf1, tv, tt, tg, yp, yh) (nI t)) := by
    intro post k
    have J : (wY_begin_49 post (nI t) xT (nI L) yW xC xG (nI N) (nI d) xN (nI p) 0 yO kk kb kp kf kn ki ka kg kh yb yw nu rs yt ys yc yl yn yv yo ym1 yf1 tv tt tg yp yh) := by
      refine br_t rfl (nm_r (nI_1 N) ⟨vN, nm_r (e' := upd yt N (nI t)) (by rw [cN]) ⟨vN, nm_r (e' := upd yc N (-1)) (by rw [cN]) ⟨vN, nm_r (e' := upd yn N (-1)) (by rw [cN]) (br_f (fun q => ?_) ?_)⟩⟩⟩)
      · have := (ba_le0 (by omega)).mp q; omega
      · rw [ba_s1 hd]
        refine ⟨vp_in_nI (by omega) (by decide), nm_r (e' := nI v) (by rw [nI_clamp (by omega), yov]) ⟨vv, ?_⟩⟩
        rw [cv, ba_un (f := yc) (by omega)]
        by_cases z : cm v = 0
        · simp only [if_pos z] at k
          rw [(rC1 v hvN).1 z]
          exact br_f ba_m1le ⟨vv, nm_e (And.intro vv (nm_r (e' := upd yl v (nI N)) (by rw [cv]) k))⟩
        · simp only [if_neg z] at k
          obtain ⟨l1, l2, l3, l4, l5⟩ := I1 (by omega)
          have ylv : yl v = nI (lc v) := by have := (rS (d - 1) (by omega)).2.2.2.2.2; rw [hv] at this; exact this (by omega)
          rw [(rC1 v hvN).2 (by omega), ylv]
          exact br_t (nI_pos' (by omega)) ⟨vv, vp_in_nI (by omega) (by decide), nm_r (e' := upd (upd yn N (-1)) (lc v) (nI N)) (by rw [nI_clamp (by omega)]) (And.intro vv (nm_r (e' := upd yl v (nI N)) (by rw [cv]) k))⟩
    refine br_f nN (br_t rfl ⟨vt20, ?_⟩)
    rw [bg_ck hA t20 rfl]
    by_cases e9 : D t = 9
    · exact br_t (by rw [e9]; rfl) (br_f (fun q => hz ⟨e9, q⟩) J)
    · exact br_f (fun q => e9 ((ba_e9 (by omega)).mp q)) J
  rcases bg_main (N := N) (d := d) (t := t) hA hB hL hp t20 hN4 (by omega) with ⟨w, p1, m, q1, q2, qH, qS, hX, hY⟩ | ⟨f, hf, hX, hY⟩
  · unfold bg_EX at hX
    unfold bg_EY at hY
    obtain ⟨yv', y1, y2, y3, y4⟩ := hY xT yW xC xG (nI (N + 1)) xN yO kf kn ka kg kh yw (upd yt N (nI t)) ys (if cm v = 0 then upd (upd yc N (-1)) v (nI N) else upd yc N (-1)) (upd yl v (nI N)) (if cm v = 0 then upd yn N (-1) else upd (upd yn N (-1)) (lc v) (nI N)) yo ym1 yf1 tv tt tg yp yh nu rs yv
    have hX' := hX xT xC xG xN xS xK xI kn ka kh kd kf vt va ve xo xt xp1 xl1 xd xm xz xu xe xc xf nu rs vn
    refine ⟨0, (nI (N + 1), nI (p1 + m), nI (if 7 ≤ D t then d + 1 else d), (if D t = 9 then xN + 1 else xN), upd vt N (nI t), vp_updL vn N w, upd va N (nI p1), upd ve N (nI (N + 1)), (if 7 ≤ D t then upd xo d (nI N) else xo), (if 7 ≤ D t then upd xt d (nI t) else xt), (if 7 ≤ D t then upd xp1 d 0 else xp1), (if 7 ≤ D t then upd xl1 d 0 else xl1)),
      (nI (N + 1), nI (if 7 ≤ D t then d + 1 else d), (if D t = 9 then xN + 1 else xN), nI (p1 + m), upd yt N (nI t), upd ys N (nI p1), (if cm v = 0 then upd (upd yc N (-1)) v (nI N) else upd yc N (-1)), upd yl v (nI N), (if cm v = 0 then upd yn N (-1) else upd (upd yn N (-1)) (lc v) (nI N)), yv', (if 7 ≤ D t then upd yo d (nI N) else yo), (if 7 ≤ D t then upd ym1 d 0 else ym1), (if 7 ≤ D t then upd yf1 d 0 else yf1)),
      fun _ => ?_, fun post k => SX1 post (hX' post k), fun post k => SY1 post (y4 post k)⟩
    obtain ⟨u, u4, u5, u7⟩ : ∃ u, (D t = 4 → w = lN u ∧ u = m ∧ u ≤ 20) ∧ (D t = 5 ∨ D t = 8 → w = lN u ∧ u < P t) ∧ (D t = 7 → u = 0 ∧ w = lN u) := by
      by_cases e4 : D t = 4
      · exact ⟨m, fun _ => ⟨(qS.1 e4).1, rfl, (qS.1 e4).2⟩, fun q => by omega, fun q => by omega⟩
      · by_cases e5 : D t = 5 ∨ D t = 8
        · obtain ⟨u, u1, u2⟩ := qH.2.1 e5
          exact ⟨u, fun q => by omega, fun _ => ⟨u2, u1⟩, fun q => by omega⟩
        · exact ⟨0, fun q => by omega, fun q => absurd q e5, fun q => ⟨rfl, qH.2.2 (by omega)⟩⟩
    have p6 : D t = 6 → p1 + B t ≤ p1 + m := fun q => by have := qS.2.1 q; omega
    refine ⟨2 * (400 - (N + 1)) + (if 7 ≤ D t then d + 1 else d), by split <;> omega, N + 1, (if 7 ≤ D t then d + 1 else d), p1 + m, _, _, _, _, _, _, _, _, _, _, by omega, q2, rfl,
      rd_add hP hd hN4 ht hv q1 (by omega) c7 c8 c9 (sc_k9 hA _) (fun q => by have := u4 q; omega) (fun q => (u5 q).2) (fun q => (u7 q).1) p6,
      rr_add hP R hd hv (fun q => qH.2.2 (Or.inl q)) y2 ?_ (fun q => ⟨y3 q, (u7 q).1⟩) y1 x7 x8 ?_ ?_ ?_ ?_ ?_, rfl, rfl, rfl, rfl, rfl, rfl, rfl⟩
    · intro q
      rcases q with q | q | q | q
      · exact (u4 q).1
      · exact (u5 (Or.inl q)).1
      · exact (u7 q).2
      · exact (u5 (Or.inr q)).1
    · intro j j1 j2
      show (if cm v = 0 then upd (upd yc N (-1)) v (nI N) else upd yc N (-1)) j = yc j
      split
      · rw [ba_un j2, ba_un j1]
      · rw [ba_un j1]
    · show (if cm v = 0 then upd (upd yc N (-1)) v (nI N) else upd yc N (-1)) N = -1
      split
      · rw [ba_un (by omega), ba_us]
      · rw [ba_us]
    · show (if cm v = 0 then upd (upd yc N (-1)) v (nI N) else upd yc N (-1)) v = if cm v = 0 then nI N else yc v
      split
      · rw [ba_us]
      · rw [ba_un (by omega)]
    · intro s s1 s2
      show (if cm v = 0 then upd yn N (-1) else upd (upd yn N (-1)) (lc v) (nI N)) s = yn s
      split
      · rw [ba_un (by omega)]
      · rename_i z
        rw [ba_un (s2.resolve_left z), ba_un (by omega)]
    · intro z
      show (if cm v = 0 then upd yn N (-1) else upd (upd yn N (-1)) (lc v) (nI N)) (lc v) = nI N
      rw [if_neg (by omega), ba_us]
  · unfold bg_FX at hX
    unfold bg_FY at hY
    obtain ⟨sx, hX'⟩ := hX xT xC xG xN xS xK xI kn ka kh kd kf vt va ve xo xt xp1 xl1 xd xm xz xu xe xc xf nu rs vn
    obtain ⟨sy, hY'⟩ := hY xT yW xC xG (nI (N + 1)) xN yO kf kn ka kg kh yw (upd yt N (nI t)) ys (if cm v = 0 then upd (upd yc N (-1)) v (nI N) else upd yc N (-1)) (upd yl v (nI N)) (if cm v = 0 then upd yn N (-1) else upd (upd yn N (-1)) (lc v) (nI N)) yo ym1 yf1 tv tt tg yp yh nu rs yv
    exact ⟨f, sx, sy, fun q => absurd q hf, fun post k => SX1 post (hX' post k), fun post k => SY1 post (hY' post k)⟩
end
end
section
section
variable {xT xL xC xG xV xA xF xD xN xS xK xI yW yV yD yR yA yF yO : Int32} {kk kb kp kn ki ka kh kd kf xb vt va ve xo xt xp xl xd xm xz xu xe xc xf kg yb yw yt ys yc yl yn yo ym yf tv tt tg yp yh : Nat → Int32} {nu rs vn yv : Nat → Int64}
variable {D B P I bb : Nat → Nat} {T L N d p t : Nat} {ty st en mb par idx cm lc op lf : Nat → Nat}
/-- the innermost is closed: X's and Y's ends -/
theorem go_close (hA : sc_A D B P I kk kb kp ki) (hS : sc_T T D B P I kn kh kd kg) (hB : by_ok xb yb bb) (hL : L ≤ 100) (hp : p ≤ L) (h : rd_P T D B P N d p ty st en mb par idx cm lc op lf)
    (R : rr_R D N d ty st en mb par idx cm lc op lf vt va ve xo xt xp xl yt ys yc yl yn yo ym yf vn yv) (hd : 0 < d) {v : Nat} (hv : op (d - 1) = v) (hc : cm v = rd_nch D P ty mb v) :
    ∃ (sx : rd_SX) (sy : rd_SY), (∃ M, M < 2 * (400 - N) + d ∧ go_G T L D B P M sx sy)
      ∧ (∀ post : SX → Prop, post (xT, nI L, xC, xG, sx.1, sx.2.1, 0, sx.2.2.1, sx.2.2.2.1, xS, xK, xI, kk, kb, kp, kn, ki, ka, kh, kd, kf, xb, nu, rs, sx.2.2.2.2.1, sx.2.2.2.2.2.1, sx.2.2.2.2.2.2.1, sx.2.2.2.2.2.2.2.1, sx.2.2.2.2.2.2.2.2.1, sx.2.2.2.2.2.2.2.2.2.1, sx.2.2.2.2.2.2.2.2.2.2.1, sx.2.2.2.2.2.2.2.2.2.2.2, xd, xm, xz, xu, xe, xc, xf) → (wpX_close post (xT, nI L, xC, xG, nI N, nI p, 0, nI d, xN, xS, xK, xI, kk, kb, kp, kn, ki, ka, kh, kd, kf, xb, nu, rs, vt, vn, va, ve, xo, xt, xp, xl, xd, xm, xz, xu, xe, xc, xf) (nI v)))
      ∧ (∀ post : SY → Prop, post (xT, nI L, yW, xC, xG, sy.1, sy.2.1, sy.2.2.1, sy.2.2.2.1, 0, yO, kk, kb, kp, kf, kn, ki, ka, kg, kh, yb, yw, nu, rs, sy.2.2.2.2.1, sy.2.2.2.2.2.1, sy.2.2.2.2.2.2.1, sy.2.2.2.2.2.2.2.1, sy.2.2.2.2.2.2.2.2.1, sy.2.2.2.2.2.2.2.2.2.1, sy.2.2.2.2.2.2.2.2.2.2.1, sy.2.2.2.2.2.2.2.2.2.2.2.1, sy.2.2.2.2.2.2.2.2.2.2.2.2, tv, tt, tg, yp, yh) → (wY_goOn_118 post (nI (d - 1)) (nI v) (nI (ty v)) 0 xT (nI L) yW xC xG (nI N) (nI d) xN (nI p) 0 yO kk kb kp kf kn ki ka kg kh yb yw nu rs yt ys yc yl yn yv yo ym yf tv tt tg yp yh)) := by
  have hP := h
  obtain ⟨⟨g1, g2⟩, hV, hO, ⟨hC0, hC1, hC2⟩, hI, ⟨hT1, hT2, hT3⟩, hW⟩ := h
  have R' := R
  obtain ⟨rA, rB, ⟨rC1, rC2⟩, rS⟩ := R'
  have hOv := hO (d - 1) (by omega)
  rw [hv] at hOv
  obtain ⟨hvN, v7, o7, o8, o9⟩ := hOv
  have hSv := rS (d - 1) (by omega)
  rw [hv] at hSv
  obtain ⟨s1, s2, s3, s4, s5, s6⟩ := hSv
  have hT20 := sc_T20 hS
  have tv20 : ty v < 20 := by have := (hV v hvN).1; omega
  have vty : vp_in (nI (ty v)) 20 := vp_in_nI tv20 (by decide)
  have vd : vp_in (nI (d - 1)) 400 := vp_in_nI (by omega) (by decide)
  have vd' : vp_in (nI (d - 1)) 401 := vp_in_nI (by omega) (by decide)
  have vv : vp_in (nI v) 400 := vp_in_nI (by omega) (by decide)
  have cd : (nI (d - 1)).toNatClampNeg = d - 1 := nI_clamp (by omega)
  have cv : (nI v).toNatClampNeg = v := nI_clamp (by omega)
  have ct : (nI (ty v)).toNatClampNeg = ty v := nI_clamp (by omega)
  have h9 := sc_k9 hA (ty v)
  have h5 := sc_p5 hA (ty v)
  by_cases e9 : D (ty v) = 9
  · refine ⟨(nI N, nI p, nI (d - 1), xN - 1, vt, vn, va, upd ve v (nI N), xo, xt, xp, xl), (nI N, nI (d - 1), xN - 1, nI p, yt, ys, yc, yl, yn, yv, yo, ym, yf), ?_, fun post k => xf_close9 hA (by omega) hd (by omega) (rA v hvN).1 tv20 e9 k, fun post k => ?_⟩
    · exact ⟨2 * (400 - N) + (d - 1), by omega, N, d - 1, p, ty, st, _, mb, par, idx, cm, lc, op, lf, by omega, hp, rfl, rd_close hP hd hv hc, rr_close hP R hd hv, rfl, rfl, rfl, rfl, rfl, rfl, rfl⟩
    · exact br_t rfl ⟨vty, br_t (by rw [ct, sc_k hA, e9]; rfl) (nm_e (nm_r (ba_s1 hd) k))⟩
  · refine ⟨(nI N, nI p, nI (d - 1), xN, vt, vn, va, upd ve v (nI N), xo, xt, xp, xl), (nI N, nI (d - 1), xN, nI p, yt, ys, yc, yl, yn, yv, yo, ym, yf), ?_, fun post k => xf_close hA (by omega) hd (by omega) (rA v hvN).1 tv20 e9 k, fun post k => ?_⟩
    · exact ⟨2 * (400 - N) + (d - 1), by omega, N, d - 1, p, ty, st, _, mb, par, idx, cm, lc, op, lf, by omega, hp, rfl, rd_close hP hd hv hc, rr_close hP R hd hv, rfl, rfl, rfl, rfl, rfl, rfl, rfl⟩
    · exact br_t rfl ⟨vty, br_f (by rw [ct, sc_k hA]; exact fun q => e9 ((ba_e9 (by omega)).mp q)) (nm_r (ba_s1 hd) k)⟩
theorem go_54 (hA : sc_A D B P I kk kb kp ki) (hS : sc_T T D B P I kn kh kd kg) (hB : by_ok xb yb bb) (hL : L ≤ 100) (hp : p ≤ L) (h : rd_P T D B P N d p ty st en mb par idx cm lc op lf)
    (R : rr_R D N d ty st en mb par idx cm lc op lf vt va ve xo xt xp xl yt ys yc yl yn yo ym yf vn yv) (hd : 0 < d) {v : Nat} (hv : op (d - 1) = v) (h7 : D (ty v) = 7) : ∃ (f : Int32) (sx : rd_SX) (sy : rd_SY), (f = 0 → ∃ M, M < 2 * (400 - N) + d ∧ go_G T L D B P M sx sy)
      ∧ (∀ post : SX → Prop, post (xT, nI L, xC, xG, sx.1, sx.2.1, f, sx.2.2.1, sx.2.2.2.1, xS, xK, xI, kk, kb, kp, kn, ki, ka, kh, kd, kf, xb, nu, rs, sx.2.2.2.2.1, sx.2.2.2.2.2.1, sx.2.2.2.2.2.2.1, sx.2.2.2.2.2.2.2.1, sx.2.2.2.2.2.2.2.2.1, sx.2.2.2.2.2.2.2.2.2.1, sx.2.2.2.2.2.2.2.2.2.2.1, sx.2.2.2.2.2.2.2.2.2.2.2, xd, xm, xz, xu, xe, xc, xf) →  (wX_goOn_54 post (nI (d - 1)) (nI (ty v)) (nI v) xT (nI L) xC xG (nI N) (nI p) 0 (nI d) xN xS xK xI kk kb kp kn ki ka kh kd kf xb nu rs vt vn va ve xo xt xp xl xd xm xz xu xe xc xf) )
      ∧ (∀ post : SY → Prop, post (xT, nI L, yW, xC, xG, sy.1, sy.2.1, sy.2.2.1, sy.2.2.2.1, f, yO, kk, kb, kp, kf, kn, ki, ka, kg, kh, yb, yw, nu, rs, sy.2.2.2.2.1, sy.2.2.2.2.2.1, sy.2.2.2.2.2.2.1, sy.2.2.2.2.2.2.2.1, sy.2.2.2.2.2.2.2.2.1, sy.2.2.2.2.2.2.2.2.2.1, sy.2.2.2.2.2.2.2.2.2.2.1, sy.2.2.2.2.2.2.2.2.2.2.2.1, sy.2.2.2.2.2.2.2.2.2.2.2.2, tv, tt, tg, yp, yh) →  (wY_goOn_47 post (nI (d - 1)) (nI v) (nI (ty v)) xT (nI L) yW xC xG (nI N) (nI d) xN (nI p) 0 yO kk kb kp kf kn ki ka kg kh yb yw nu rs yt ys yc yl yn yv yo ym yf tv tt tg yp yh)) := by
  have hP := h
  obtain ⟨⟨g1, g2⟩, hV, hO, ⟨hC0, hC1, hC2⟩, hI, ⟨hT1, hT2, hT3⟩, hW⟩ := h
  have R' := R
  obtain ⟨rA, rB, ⟨rC1, rC2⟩, rS⟩ := R'
  have hOv := hO (d - 1) (by omega)
  rw [hv] at hOv
  obtain ⟨hvN, v7, o7, o8, o9⟩ := hOv
  have hSv := rS (d - 1) (by omega)
  rw [hv] at hSv
  obtain ⟨s1, s2, s3, s4, s5, s6⟩ := hSv
  have hT20 := sc_T20 hS
  have tv20 : ty v < 20 := by have := (hV v hvN).1; omega
  have vty : vp_in (nI (ty v)) 20 := vp_in_nI tv20 (by decide)
  have vd : vp_in (nI (d - 1)) 400 := vp_in_nI (by omega) (by decide)
  have vd' : vp_in (nI (d - 1)) 401 := vp_in_nI (by omega) (by decide)
  have vv : vp_in (nI v) 400 := vp_in_nI (by omega) (by decide)
  have cd : (nI (d - 1)).toNatClampNeg = d - 1 := nI_clamp (by omega)
  have cv : (nI v).toNatClampNeg = v := nI_clamp (by omega)
  have ct : (nI (ty v)).toNatClampNeg = ty v := nI_clamp (by omega)
  have h9 := sc_k9 hA (ty v)
  have h5 := sc_p5 hA (ty v)
  obtain ⟨xlv, yfv⟩ := s4 h7
  have k7 : kk (nI (ty v)).toNatClampNeg = 7 := by rw [ct, sc_k hA, h7]; rfl
  obtain ⟨q1, q2⟩ := o7 h7
  have m40 := (hV v hvN).2.2.2.2.2.2.1 h7
  by_cases z : lf (d - 1) = 0
  · obtain ⟨sx, sy, hM, hX, hY⟩ := go_close (xN := xN) (xT := xT) (xC := xC) (xG := xG) (xS := xS) (xK := xK) (xI := xI) (ka := ka) (kf := kf) (nu := nu) (rs := rs) (xd := xd) (xm := xm) (xz := xz) (xu := xu) (xe := xe) (xc := xc) (xf := xf) (yW := yW) (yO := yO) (yw := yw) (tv := tv) (tt := tt) (tg := tg) (yp := yp) (yh := yh) hA hS hB hL hp hP R hd hv (by unfold rd_nch; rw [if_pos h7]; omega)
    refine ⟨0, sx, sy, fun _ => hM, fun post k => ?_, fun post k => ?_⟩
    · refine br_t rfl ⟨vd, br_t (by rw [cd, xlv, z]; exact Int32.le_refl _) ?_⟩
      unfold wX_goOn_94
      exact hX _ k
    · exact br_t rfl ⟨vty, br_t k7 ⟨vd', br_t (by rw [cd, yfv, z]; exact Int32.le_refl _) (hY post k)⟩⟩
  · have bT := (sc_bT hS h7).2
    obtain ⟨f, sx, sy, hM, hX, hY⟩ := go_beg (t := B (ty v)) (xN := xN) (xT := xT) (xC := xC) (xG := xG) (xS := xS) (xK := xK) (xI := xI) (kn := kn) (kh := kh) (kd := kd) (kg := kg) (ka := ka) (kf := kf) (nu := nu) (rs := rs) (xd := xd) (xm := xm) (xz := xz) (xu := xu) (xe := xe) (xc := xc) (xf := xf) (yW := yW) (yO := yO) (yw := yw) (tv := tv) (tt := tt) (tg := tg) (yp := yp) (yh := yh) (xp1 := xp) (xl1 := upd xl (d - 1) (nI (lf (d - 1) - 1))) (ym1 := upd ym (d - 1) (ym (d - 1) + 1)) (yf1 := upd yf (d - 1) (nI (lf (d - 1) - 1))) hA hB hL hT20 hp hP R hd hv bT
      (fun _ => ⟨fun i hi => ⟨ba_un hi, ba_un hi⟩, ba_us, ba_us, rfl, fun i hi => ba_un hi⟩) (fun q => absurd h7 q) (fun _ => by omega) (fun q => by omega) (fun q => by omega)
    refine ⟨f, sx, sy, hM, fun post k => ?_, fun post k => ?_⟩
    · refine br_t rfl ⟨vd, br_f (by rw [cd, xlv]; exact fun q => z ((ba_le0 (by omega)).mp q)) ⟨vd, vd, nm_r (e' := upd xl (d - 1) (nI (lf (d - 1) - 1))) (by rw [cd, xlv, ba_s1 (by omega), pk_vb, ba_b (by omega)]) ⟨vty, ?_⟩⟩⟩
      rw [ct, sc_b hA]
      exact hX _ k
    · refine br_t rfl ⟨vty, br_t k7 ⟨vd', br_f (by rw [cd, yfv]; exact fun q => z ((ba_le0 (by omega)).mp q)) ?_⟩⟩
      refine br_f (by decide) ⟨vd', nm_e ⟨vd', vd', nm_r (e' := upd ym (d - 1) (ym (d - 1) + 1)) (by rw [cd]) ⟨vd', vd', nm_r (e' := upd yf (d - 1) (nI (lf (d - 1) - 1))) (by rw [cd, yfv, ba_s1 (by omega)]) ⟨vty, br_t k7 ⟨vty, ?_⟩⟩⟩⟩⟩
      rw [ct, sc_b hA]
      unfold wY_goOn_247
      exact hY _ k
/-- one step of reading -/
theorem go_on (hA : sc_A D B P I kk kb kp ki) (hS : sc_T T D B P I kn kh kd kg) (hB : by_ok xb yb bb) (hL : L ≤ 100) (hp : p ≤ L) (h : rd_P T D B P N d p ty st en mb par idx cm lc op lf)
    (R : rr_R D N d ty st en mb par idx cm lc op lf vt va ve xo xt xp xl yt ys yc yl yn yo ym yf vn yv) (hd : 0 < d) {v : Nat} (hv : op (d - 1) = v) : ∃ (f : Int32) (sx : rd_SX) (sy : rd_SY), (f = 0 → ∃ M, M < 2 * (400 - N) + d ∧ go_G T L D B P M sx sy)
      ∧ (∀ post : SX → Prop, post (xT, nI L, xC, xG, sx.1, sx.2.1, f, sx.2.2.1, sx.2.2.2.1, xS, xK, xI, kk, kb, kp, kn, ki, ka, kh, kd, kf, xb, nu, rs, sx.2.2.2.2.1, sx.2.2.2.2.2.1, sx.2.2.2.2.2.2.1, sx.2.2.2.2.2.2.2.1, sx.2.2.2.2.2.2.2.2.1, sx.2.2.2.2.2.2.2.2.2.1, sx.2.2.2.2.2.2.2.2.2.2.1, sx.2.2.2.2.2.2.2.2.2.2.2, xd, xm, xz, xu, xe, xc, xf) →  (wpX_goOn post (xT, nI L, xC, xG, nI N, nI p, 0, nI d, xN, xS, xK, xI, kk, kb, kp, kn, ki, ka, kh, kd, kf, xb, nu, rs, vt, vn, va, ve, xo, xt, xp, xl, xd, xm, xz, xu, xe, xc, xf)) )
      ∧ (∀ post : SY → Prop, post (xT, nI L, yW, xC, xG, sy.1, sy.2.1, sy.2.2.1, sy.2.2.2.1, f, yO, kk, kb, kp, kf, kn, ki, ka, kg, kh, yb, yw, nu, rs, sy.2.2.2.2.1, sy.2.2.2.2.2.1, sy.2.2.2.2.2.2.1, sy.2.2.2.2.2.2.2.1, sy.2.2.2.2.2.2.2.2.1, sy.2.2.2.2.2.2.2.2.2.1, sy.2.2.2.2.2.2.2.2.2.2.1, sy.2.2.2.2.2.2.2.2.2.2.2.1, sy.2.2.2.2.2.2.2.2.2.2.2.2, tv, tt, tg, yp, yh) →  (wpY_goOn post (xT, nI L, yW, xC, xG, nI N, nI d, xN, nI p, 0, yO, kk, kb, kp, kf, kn, ki, ka, kg, kh, yb, yw, nu, rs, yt, ys, yc, yl, yn, yv, yo, ym, yf, tv, tt, tg, yp, yh))) := by
  have hP := h
  obtain ⟨⟨g1, g2⟩, hV, hO, ⟨hC0, hC1, hC2⟩, hI, ⟨hT1, hT2, hT3⟩, hW⟩ := h
  have R' := R
  obtain ⟨rA, rB, ⟨rC1, rC2⟩, rS⟩ := R'
  have hOv := hO (d - 1) (by omega)
  rw [hv] at hOv
  obtain ⟨hvN, v7, o7, o8, o9⟩ := hOv
  have hSv := rS (d - 1) (by omega)
  rw [hv] at hSv
  obtain ⟨s1, s2, s3, s4, s5, s6⟩ := hSv
  have hT20 := sc_T20 hS
  have tv20 : ty v < 20 := by have := (hV v hvN).1; omega
  have vty : vp_in (nI (ty v)) 20 := vp_in_nI tv20 (by decide)
  have vd : vp_in (nI (d - 1)) 400 := vp_in_nI (by omega) (by decide)
  have vd' : vp_in (nI (d - 1)) 401 := vp_in_nI (by omega) (by decide)
  have vv : vp_in (nI v) 400 := vp_in_nI (by omega) (by decide)
  have cd : (nI (d - 1)).toNatClampNeg = d - 1 := nI_clamp (by omega)
  have cv : (nI v).toNatClampNeg = v := nI_clamp (by omega)
  have ct : (nI (ty v)).toNatClampNeg = ty v := nI_clamp (by omega)
  have h9 := sc_k9 hA (ty v)
  have h5 := sc_p5 hA (ty v)
  have PX : ∀ post : SX → Prop, ((kk (nI (ty v)).toNatClampNeg = 7 → (vp_in (nI (d - 1)) 400 ∧ (((xl (nI (d - 1)).toNatClampNeg = 0 → (wpX_block (fun u => match u with | (xT, xL, xC, xG, xV, xA, xF, xD, xN, xS, xK, xI, kk, kb, kp, kn, ki, ka, kh, kd, kf, xb, nu, rs, vt, vn, va, ve, xo, xt, xp, xl, xd, xm, xz, xu, xe, xc, xf) => (wX_goOn_54 post (nI (d - 1)) (nI (ty v)) (nI v) xT xL xC xG xV xA xF xD xN xS xK xI kk kb kp kn ki ka kh kd kf xb nu rs vt vn va ve xo xt xp xl xd xm xz xu xe xc xf)) (xT, nI L, xC, xG, nI N, nI p, 0, nI d, xN, xS, xK, xI, kk, kb, kp, kn, ki, ka, kh, kd, kf, xb, nu, rs, vt, vn, va, ve, xo, xt, xp, xl, xd, xm, xz, xu, xe, xc, xf) (nI v))) ∧ (¬ xl (nI (d - 1)).toNatClampNeg = 0 → (wX_goOn_54 post (nI (d - 1)) (nI (ty v)) (nI v) xT (nI L) xC xG (nI N) (nI p) 0 (nI d) xN xS xK xI kk kb kp kn ki ka kh kd kf xb nu rs vt vn va ve xo xt xp xl xd xm xz xu xe xc xf)))))) ∧ (¬ kk (nI (ty v)).toNatClampNeg = 7 → (vp_in (nI (ty v)) 20 ∧ ((kk (nI (ty v)).toNatClampNeg = 8 → ((xp (d - 1) = 0 → (wX_goOn_132 post (nI (d - 1)) (nI (ty v)) (nI v) (xp (d - 1)) xT (nI L) xC xG (nI N) (nI p) 0 (nI d) xN xS xK xI kk kb kp kn ki ka kh kd kf xb nu rs vt vn va ve xo xt xp xl xd xm xz xu xe xc xf)) ∧ (¬ xp (d - 1) = 0 → (wX_goOn_182 post (nI v) xT (nI L) xC xG (nI N) (nI p) 0 (nI d) xN xS xK xI kk kb kp kn ki ka kh kd kf xb nu rs vt vn va ve xo xt xp xl xd xm xz xu xe xc xf)))) ∧ (¬ kk (nI (ty v)).toNatClampNeg = 8 → (vp_in (nI (ty v)) 20 ∧ ((kp (nI (ty v)).toNatClampNeg ≤ xp (d - 1) → (wX_goOn_182 post (nI v) xT (nI L) xC xG (nI N) (nI p) 0 (nI d) xN xS xK xI kk kb kp kn ki ka kh kd kf xb nu rs vt vn va ve xo xt xp xl xd xm xz xu xe xc xf)) ∧ (¬ kp (nI (ty v)).toNatClampNeg ≤ xp (d - 1) → (wX_goOn_132 post (nI (d - 1)) (nI (ty v)) (nI v) (xp (d - 1)) xT (nI L) xC xG (nI N) (nI p) 0 (nI d) xN xS xK xI kk kb kp kn ki ka kh kd kf xb nu rs vt vn va ve xo xt xp xl xd xm xz xu xe xc xf))))))))) → (wpX_goOn post (xT, nI L, xC, xG, nI N, nI p, 0, nI d, xN, xS, xK, xI, kk, kb, kp, kn, ki, ka, kh, kd, kf, xb, nu, rs, vt, vn, va, ve, xo, xt, xp, xl, xd, xm, xz, xu, xe, xc, xf)) := by
    intro post k
    exact nm_r (ba_s1 hd) (And.intro vd (nm_r (e' := nI (ty v)) (by rw [cd, s3]) ⟨vd, nm_r (e' := nI v) (by rw [cd, s1]) ⟨vd, nm_r (e' := xp (d - 1)) (by rw [cd]) ⟨vty, k⟩⟩⟩))
  have PY : ∀ post : SY → Prop, ((kk (nI (ty v)).toNatClampNeg = 7 → (vp_in (nI (d - 1)) 401 ∧ ((yf (nI (d - 1)).toNatClampNeg = 0 → (wpY_block (fun u => match u with | (xT, xL, yW, xC, xG, yV, yD, yR, yA, yF, yO, kk, kb, kp, kf, kn, ki, ka, kg, kh, yb, yw, nu, rs, yt, ys, yc, yl, yn, yv, yo, ym, yf, tv, tt, tg, yp, yh) => (wY_goOn_47 post (nI (d - 1)) (nI v) (nI (ty v)) xT xL yW xC xG yV yD yR yA yF yO kk kb kp kf kn ki ka kg kh yb yw nu rs yt ys yc yl yn yv yo ym yf tv tt tg yp yh)) (xT, nI L, yW, xC, xG, nI N, nI d, xN, nI p, 0, yO, kk, kb, kp, kf, kn, ki, ka, kg, kh, yb, yw, nu, rs, yt, ys, yc, yl, yn, yv, yo, ym, yf, tv, tt, tg, yp, yh) (nI (d - 1)) (nI v))) ∧ (¬ yf (nI (d - 1)).toNatClampNeg = 0 → (wY_goOn_47 post (nI (d - 1)) (nI v) (nI (ty v)) xT (nI L) yW xC xG (nI N) (nI d) xN (nI p) 0 yO kk kb kp kf kn ki ka kg kh yb yw nu rs yt ys yc yl yn yv yo ym yf tv tt tg yp yh))))) ∧ (¬ kk (nI (ty v)).toNatClampNeg = 7 → (wY_goOn_47 post (nI (d - 1)) (nI v) (nI (ty v)) xT (nI L) yW xC xG (nI N) (nI d) xN (nI p) 0 yO kk kb kp kf kn ki ka kg kh yb yw nu rs yt ys yc yl yn yv yo ym yf tv tt tg yp yh))) → (wpY_goOn post (xT, nI L, yW, xC, xG, nI N, nI d, xN, nI p, 0, yO, kk, kb, kp, kf, kn, ki, ka, kg, kh, yb, yw, nu, rs, yt, ys, yc, yl, yn, yv, yo, ym, yf, tv, tt, tg, yp, yh)) := by
    intro post k
    exact nm_r (ba_s1 hd) (And.intro vd' (nm_r (e' := nI v) (by rw [cd, s2]) ⟨vv, nm_r (e' := nI (ty v)) (by rw [cv]; exact (rA v hvN).2.2.2.1) ⟨vty, k⟩⟩))
  have TT : 0 < T := by have := (hV v hvN).1; omega
  by_cases e7 : D (ty v) = 7
  · have k7 : kk (nI (ty v)).toNatClampNeg = 7 := by rw [ct, sc_k hA, e7]; rfl
    obtain ⟨xlv, yfv⟩ := s4 e7
    obtain ⟨q1, q2⟩ := o7 e7
    have m40 := (hV v hvN).2.2.2.2.2.2.1 e7
    obtain ⟨bx, by'⟩ := (rB v hvN).2.2 (by omega)
    by_cases z : lf (d - 1) = 0
    · rcases bk_main (n := v) (a := mb v) (p := p) hB hL hp (by omega) hd (by omega) m40 with ⟨c, p', c1, c2, c3, hX, hY⟩ | ⟨f, hf, hX, hY⟩
      · obtain ⟨f, sx, sy, hM, hX2, hY2⟩ := go_54 (xN := xN) (xT := xT) (xC := xC) (xG := xG) (xS := xS) (xK := xK) (xI := xI) (ka := ka) (kf := kf) (nu := nu) (rs := rs) (xd := xd) (xm := xm) (xz := xz) (xu := xu) (xe := xe) (xc := xc) (xf := xf) (yW := yW) (yO := yO) (yw := yw) (tv := tv) (tt := tt) (tg := tg) (yp := yp) (yh := yh) (p := p') (xl := upd xl (d - 1) (nI c)) (yf := upd yf (d - 1) (nI c)) (vn := vp_updL vn v (lN (mb v + c))) (yv := vp_updL yv v (lN (mb v + c))) hA hS hB hL c3 (rd_block hP hd hv e7 z c1 c2) (rr_block hP R hd hv) hd hv e7
        refine ⟨f, sx, sy, hM, fun post k => PX post (br_t k7 ⟨vd, br_t (by rw [cd, xlv, z]; rfl) ?_⟩), fun post k => PY post (br_t k7 ⟨vd', br_t (by rw [cd, yfv, z]; rfl) ?_⟩)⟩
        · unfold bk_EX at hX
          apply hX
          · exact bx
          · exact hX2 post k
        · unfold bk_EY at hY
          apply hY
          · exact by'
          · exact hY2 post k
      · unfold bk_FX at hX
        unfold bk_FY at hY
        obtain ⟨xA', vn', xl', hX'⟩ := hX xT xC xG (nI N) xN xS xK xI kk kb kp kn ki ka kh kd kf vt va ve xo xt xp xl xd xm xz xu xe xc xf nu rs vn bx
        obtain ⟨yA', yv', yf', hY'⟩ := hY xT yW xC xG (nI N) (nI d) xN yO kk kb kp kf kn ki ka kg kh yw yt ys yc yl yn yo ym yf tv tt tg yp yh nu rs yv by'
        refine ⟨f, (nI N, xA', nI (d - 1), xN, vt, vn', va, upd ve v (nI N), xo, xt, xp, xl'), (nI N, nI d, xN, yA', yt, ys, yc, yl, yn, yv', yo, ym, yf'), fun q => absurd q hf, fun post k => PX post (br_t k7 ⟨vd, br_t (by rw [cd, xlv, z]; rfl) (hX' _ (br_f hf ?_))⟩), fun post k => PY post (br_t k7 ⟨vd', br_t (by rw [cd, yfv, z]; rfl) (hY' _ (br_f hf k))⟩)⟩
        unfold wX_goOn_94
        exact xf_close hA (by omega) hd (by omega) (rA v hvN).1 tv20 (by omega) k
    · obtain ⟨f, sx, sy, hM, hX2, hY2⟩ := go_54 (xN := xN) (xT := xT) (xC := xC) (xG := xG) (xS := xS) (xK := xK) (xI := xI) (ka := ka) (kf := kf) (nu := nu) (rs := rs) (xd := xd) (xm := xm) (xz := xz) (xu := xu) (xe := xe) (xc := xc) (xf := xf) (yW := yW) (yO := yO) (yw := yw) (tv := tv) (tt := tt) (tg := tg) (yp := yp) (yh := yh) hA hS hB hL hp hP R hd hv e7
      exact ⟨f, sx, sy, hM, fun post k => PX post (br_t k7 ⟨vd, br_f (by rw [cd, xlv]; exact fun q => z ((ba_e0 (by omega)).mp q)) (hX2 post k)⟩), fun post k => PY post (br_t k7 ⟨vd', br_f (by rw [cd, yfv]; exact fun q => z ((ba_e0 (by omega)).mp q)) (hY2 post k)⟩)⟩
  · have k7 : ¬ kk (nI (ty v)).toNatClampNeg = 7 := by rw [ct, sc_k hA]; exact fun q => e7 ((ba_e7 (by omega)).mp q)
    obtain ⟨xpv, ymv⟩ := s5 e7
    by_cases e8 : D (ty v) = 8
    · have k8 : kk (nI (ty v)).toNatClampNeg = 8 := by rw [ct, sc_k hA, e8]; rfl
      have c1 := o8 e8
      obtain ⟨bx, by'⟩ := (rB v hvN).2.2 (by omega)
      have mP := (hV v hvN).2.2.2.2.2.1 (Or.inr e8)
      by_cases z : cm v = 0
      · have iT := sc_iT hS (5 * ty v + mb v) TT
        obtain ⟨f, sx, sy, hM, hX, hY⟩ := go_beg (t := I (5 * ty v + mb v)) (xN := xN) (xT := xT) (xC := xC) (xG := xG) (xS := xS) (xK := xK) (xI := xI) (kn := kn) (kh := kh) (kd := kd) (kg := kg) (ka := ka) (kf := kf) (nu := nu) (rs := rs) (xd := xd) (xm := xm) (xz := xz) (xu := xu) (xe := xe) (xc := xc) (xf := xf) (yW := yW) (yO := yO) (yw := yw) (tv := tv) (tt := tt) (tg := tg) (yp := yp) (yh := yh) (xp1 := upd xp (d - 1) (nI (cm v + 1))) (xl1 := xl) (ym1 := upd ym (d - 1) (nI (cm v + 1))) (yf1 := upd yf (d - 1) (yf (d - 1) - 1)) hA hB hL hT20 hp hP R hd hv iT
          (fun q => absurd q e7) (fun _ => ⟨fun i hi => ⟨ba_un hi, ba_un hi⟩, ba_us, ba_us, rfl, fun i hi => ba_un hi⟩) (fun q => absurd q e7) (fun _ => z) (fun q => by omega)
        refine ⟨f, sx, sy, hM, fun post k => PX post (br_f k7 ⟨vty, br_t k8 (br_t (by rw [xpv, z]; rfl) (And.intro vd ⟨vd, nm_r (e' := upd xp (d - 1) (nI (cm v + 1))) (by rw [cd, xpv, nI_1, pk_vb, ba_b (by omega)]) ⟨vty, br_t k8 ⟨vv, ?_⟩⟩⟩))⟩), fun post k => PY post (br_f k7 (br_t rfl ⟨vty, br_f k7 ⟨vd', vty, br_t k8 (br_f ?_ (br_f (by decide) ⟨vd', nm_e ⟨vd', vd', nm_r (e' := upd ym (d - 1) (nI (cm v + 1))) (by rw [cd, ymv, nI_1]) ⟨vd', vd', nm_r (e' := upd yf (d - 1) (yf (d - 1) - 1)) (by rw [cd]) ⟨vty, br_f k7 ⟨vty, br_t k8 ⟨vv, ?_⟩⟩⟩⟩⟩⟩))⟩⟩))⟩
        · unfold wX_goOn_174
          rw [cv, bx, lN_i, ba_5, nI_add, nI_clamp (by omega), sc_i hA]
          exact ⟨vp_in_nI (by omega) (by decide), hX _ k⟩
        · rw [cd, ymv, z]; decide
        · unfold wY_goOn_247
          rw [cv, by', lN_i, ba_5, nI_add, nI_clamp (by omega), sc_i hA]
          exact ⟨vp_in_nI (by omega) (by decide), hY _ k⟩
      · obtain ⟨sx, sy, hM, hX, hY⟩ := go_close (xN := xN) (xT := xT) (xC := xC) (xG := xG) (xS := xS) (xK := xK) (xI := xI) (ka := ka) (kf := kf) (nu := nu) (rs := rs) (xd := xd) (xm := xm) (xz := xz) (xu := xu) (xe := xe) (xc := xc) (xf := xf) (yW := yW) (yO := yO) (yw := yw) (tv := tv) (tt := tt) (tg := tg) (yp := yp) (yh := yh) hA hS hB hL hp hP R hd hv (by unfold rd_nch; rw [if_neg e7, if_pos e8]; omega)
        refine ⟨0, sx, sy, fun _ => hM, fun post k => PX post (br_f k7 ⟨vty, br_t k8 (br_f (by rw [xpv]; exact fun q => z ((ba_e0 (by omega)).mp q)) ?_)⟩), fun post k => PY post (br_f k7 (br_t rfl ⟨vty, br_f k7 ⟨vd', vty, br_t k8 (br_t ?_ (hY post k))⟩⟩))⟩
        · unfold wX_goOn_182
          exact hX _ k
        · rw [cd, ymv]
          exact (ba_ge1 (by omega)).mpr (by omega)
    · have e9 : D (ty v) = 9 := by omega
      have k8 : ¬ kk (nI (ty v)).toNatClampNeg = 8 := by rw [ct, sc_k hA]; exact fun q => e8 ((ba_e8 (by omega)).mp q)
      have c1 := o9 e9
      by_cases z : cm v < P (ty v)
      · have iT := sc_iT hS (5 * ty v + cm v) TT
        obtain ⟨f, sx, sy, hM, hX, hY⟩ := go_beg (t := I (5 * ty v + cm v)) (xN := xN) (xT := xT) (xC := xC) (xG := xG) (xS := xS) (xK := xK) (xI := xI) (kn := kn) (kh := kh) (kd := kd) (kg := kg) (ka := ka) (kf := kf) (nu := nu) (rs := rs) (xd := xd) (xm := xm) (xz := xz) (xu := xu) (xe := xe) (xc := xc) (xf := xf) (yW := yW) (yO := yO) (yw := yw) (tv := tv) (tt := tt) (tg := tg) (yp := yp) (yh := yh) (xp1 := upd xp (d - 1) (nI (cm v + 1))) (xl1 := xl) (ym1 := upd ym (d - 1) (nI (cm v + 1))) (yf1 := upd yf (d - 1) (yf (d - 1) - 1)) hA hB hL hT20 hp hP R hd hv iT
          (fun q => absurd q e7) (fun _ => ⟨fun i hi => ⟨ba_un hi, ba_un hi⟩, ba_us, ba_us, rfl, fun i hi => ba_un hi⟩) (fun q => absurd q e7) (fun q => absurd q e8) (fun _ => z)
        refine ⟨f, sx, sy, hM, fun post k => PX post (br_f k7 ⟨vty, br_f k8 ⟨vty, br_f (by rw [ct, sc_p hA, xpv]; exact nI_ge z (by omega)) (And.intro vd ⟨vd, nm_r (e' := upd xp (d - 1) (nI (cm v + 1))) (by rw [cd, xpv, nI_1, pk_vb, ba_b (by omega)]) ⟨vty, br_f k8 ?_⟩⟩)⟩⟩), fun post k => PY post (br_f k7 (br_t rfl ⟨vty, br_f k7 ⟨vd', vty, br_f k8 ⟨vty, br_f ?_ (br_f (by decide) ⟨vd', nm_r (e' := nI (cm v)) (by rw [cd, ymv]) ⟨vd', vd', nm_r (e' := upd ym (d - 1) (nI (cm v + 1))) (by rw [cd, ymv, nI_1]) ⟨vd', vd', nm_r (e' := upd yf (d - 1) (yf (d - 1) - 1)) (by rw [cd]) ⟨vty, br_f k7 ⟨vty, br_f k8 ?_⟩⟩⟩⟩⟩)⟩⟩⟩))⟩
        · unfold wX_goOn_174
          rw [xpv, ba_5, nI_add, nI_clamp (by omega), sc_i hA]
          exact ⟨vp_in_nI (by omega) (by decide), hX _ k⟩
        · rw [cd, ct, sc_p hA, ymv]; exact nI_ge z (by omega)
        · unfold wY_goOn_247
          rw [ba_5, nI_add, nI_clamp (by omega), sc_i hA]
          exact ⟨vp_in_nI (by omega) (by decide), hY _ k⟩
      · obtain ⟨sx, sy, hM, hX, hY⟩ := go_close (xN := xN) (xT := xT) (xC := xC) (xG := xG) (xS := xS) (xK := xK) (xI := xI) (ka := ka) (kf := kf) (nu := nu) (rs := rs) (xd := xd) (xm := xm) (xz := xz) (xu := xu) (xe := xe) (xc := xc) (xf := xf) (yW := yW) (yO := yO) (yw := yw) (tv := tv) (tt := tt) (tg := tg) (yp := yp) (yh := yh) hA hS hB hL hp hP R hd hv (by unfold rd_nch; rw [if_neg e7, if_neg e8, if_pos e9]; omega)
        refine ⟨0, sx, sy, fun _ => hM, fun post k => PX post (br_f k7 ⟨vty, br_f k8 ⟨vty, br_t (by rw [ct, sc_p hA, xpv]; exact nI_le (by omega) (by omega)) ?_⟩⟩), fun post k => PY post (br_f k7 (br_t rfl ⟨vty, br_f k7 ⟨vd', vty, br_f k8 ⟨vty, br_t ?_ (hY post k)⟩⟩⟩))⟩
        · unfold wX_goOn_182
          exact hX _ k
        · rw [cd, ct, sc_p hA, ymv]
          exact nI_le (by omega) (by omega)
end
end
section
section
variable {xT xL xC xG xV xA xF xD xN xS xK xI yW yV yD yR yA yF yO : Int32} {kk kb kp kn ki ka kh kd kf xb vt va ve xo xt xp xl xd xm xz xu xe xc xf kg yb yw yt ys yc yl yn yo ym yf tv tt tg yp yh : Nat → Int32} {nu rs vn yv : Nat → Int64}
variable {D B P I bb : Nat → Nat} {T L N d p t : Nat} {ty st en mb par idx cm lc op lf : Nat → Nat}
theorem go_root (hA : sc_A D B P I kk kb kp ki) (hB : by_ok xb yb bb) (hL : L ≤ 100) (hT : T ≤ 20) (ht : t < T) :
    ∃ (f : Int32) (sx : rd_SX) (sy : rd_SY), (f = 0 → ∃ M, go_G T L D B P M sx sy)
      ∧ (∀ post : SX → Prop, post (xT, nI L, xC, xG, sx.1, sx.2.1, f, sx.2.2.1, sx.2.2.2.1, xS, xK, xI, kk, kb, kp, kn, ki, ka, kh, kd, kf, xb, nu, rs, sx.2.2.2.2.1, sx.2.2.2.2.2.1, sx.2.2.2.2.2.2.1, sx.2.2.2.2.2.2.2.1, sx.2.2.2.2.2.2.2.2.1, sx.2.2.2.2.2.2.2.2.2.1, sx.2.2.2.2.2.2.2.2.2.2.1, sx.2.2.2.2.2.2.2.2.2.2.2, xd, xm, xz, xu, xe, xc, xf) → (wpX_begin post (xT, nI L, xC, xG, 0, 0, 0, 0, 0, xS, xK, xI, kk, kb, kp, kn, ki, ka, kh, kd, kf, xb, nu, rs, vt, vn, va, ve, xo, xt, xp, xl, xd, xm, xz, xu, xe, xc, xf) (nI t)))
      ∧ (∀ post : SY → Prop, post (xT, nI L, yW, xC, xG, sy.1, sy.2.1, sy.2.2.1, sy.2.2.2.1, f, yO, kk, kb, kp, kf, kn, ki, ka, kg, kh, yb, yw, nu, rs, sy.2.2.2.2.1, sy.2.2.2.2.2.1, sy.2.2.2.2.2.2.1, sy.2.2.2.2.2.2.2.1, sy.2.2.2.2.2.2.2.2.1, sy.2.2.2.2.2.2.2.2.2.1, sy.2.2.2.2.2.2.2.2.2.2.1, sy.2.2.2.2.2.2.2.2.2.2.2.1, sy.2.2.2.2.2.2.2.2.2.2.2.2, tv, tt, tg, yp, yh) → (wpY_begin post (xT, nI L, yW, xC, xG, 0, 0, 0, 0, 0, yO, kk, kb, kp, kf, kn, ki, ka, kg, kh, yb, yw, nu, rs, yt, ys, yc, yl, yn, yv, yo, ym, yf, tv, tt, tg, yp, yh) (nI t))) := by
  have h9 := sc_k9 hA t
  have t20 : t < 20 := by omega
  have vt20 : vp_in (nI t) 20 := vp_in_nI t20 (by decide)
  have v0 : vp_in (0 : Int32) 400 := vp_in_nI (n := 0) (by decide) (by decide)
  have SX1 : ∀ post : SX → Prop, (wX_begin_44 post (nI t) xT (nI L) xC xG (nI 0) (nI 0) 0 (nI 0) 0 xS xK xI kk kb kp kn ki ka kh kd kf xb nu rs vt vn va ve xo xt xp xl xd xm xz xu xe xc xf) → (wpX_begin post (xT, nI L, xC, xG, 0, 0, 0, 0, 0, xS, xK, xI, kk, kb, kp, kn, ki, ka, kh, kd, kf, xb, nu, rs, vt, vn, va, ve, xo, xt, xp, xl, xd, xm, xz, xu, xe, xc, xf) (nI t)) := by
    intro post k
    refine br_f (by decide) ⟨vt20, ?_⟩
    exact br_c (fun _ => br_f (by decide) k) (fun _ => k)
  have SY1 : ∀ post : SY → Prop, (wY_begin_150 post (nI t) (nI 0) xT (nI L) yW xC xG 1 (nI 0) 0 (nI 0) 0 yO kk kb kp kf kn ki ka kg kh yb yw nu rs (upd yt 0 (nI t)) ys (upd yc 0 (-1)) yl (upd yn 0 (-1)) yv yo ym yf tv tt tg yp yh) → (wpY_begin post (xT, nI L, yW, xC, xG, 0, 0, 0, 0, 0, yO, kk, kb, kp, kf, kn, ki, ka, kg, kh, yb, yw, nu, rs, yt, ys, yc, yl, yn, yv, yo, ym, yf, tv, tt, tg, yp, yh) (nI t)) := by
    intro post k
    have J : (wY_begin_49 post (nI t) xT (nI L) yW xC xG 0 0 0 0 0 yO kk kb kp kf kn ki ka kg kh yb yw nu rs yt ys yc yl yn yv yo ym yf tv tt tg yp yh) :=
      br_t rfl (nm_r (e' := 1) rfl ⟨v0, nm_r (e' := upd yt 0 (nI t)) rfl ⟨v0, nm_r (e' := upd yc 0 (-1)) rfl ⟨v0, nm_r (e' := upd yn 0 (-1)) rfl (br_t (by decide) k)⟩⟩⟩)
    exact br_f (by decide) (br_t rfl ⟨vt20, br_c (fun _ => br_f (by decide) J) (fun _ => J)⟩)
  rcases bg_main (N := 0) (d := 0) (p := 0) (t := t) hA hB hL (by omega) t20 (by omega) (by omega) with ⟨w, p1, m, q1, q2, qH, qS, hX, hY⟩ | ⟨f, hf, hX, hY⟩
  · unfold bg_EX at hX
    unfold bg_EY at hY
    obtain ⟨yv', y1, y2, y3, y4⟩ := hY xT yW xC xG 1 0 yO kf kn ka kg kh yw (upd yt 0 (nI t)) ys (upd yc 0 (-1)) yl (upd yn 0 (-1)) yo ym yf tv tt tg yp yh nu rs yv
    have hX' := hX xT xC xG 0 xS xK xI kn ka kh kd kf vt va ve xo xt xp xl xd xm xz xu xe xc xf nu rs vn
    refine ⟨0, (nI (0 + 1), nI (p1 + m), nI (if 7 ≤ D t then 0 + 1 else 0), (if D t = 9 then (0 : Int32) + 1 else 0), upd vt 0 (nI t), vp_updL vn 0 w, upd va 0 (nI p1), upd ve 0 (nI (0 + 1)), (if 7 ≤ D t then upd xo 0 (nI 0) else xo), (if 7 ≤ D t then upd xt 0 (nI t) else xt), (if 7 ≤ D t then upd xp 0 0 else xp), (if 7 ≤ D t then upd xl 0 0 else xl)),
      (1, nI (if 7 ≤ D t then 0 + 1 else 0), (if D t = 9 then (0 : Int32) + 1 else 0), nI (p1 + m), upd yt 0 (nI t), upd ys 0 (nI p1), upd yc 0 (-1), yl, upd yn 0 (-1), yv', (if 7 ≤ D t then upd yo 0 (nI 0) else yo), (if 7 ≤ D t then upd ym 0 0 else ym), (if 7 ≤ D t then upd yf 0 0 else yf)),
      fun _ => ?_, fun post k => SX1 post (hX' post k), fun post k => SY1 post (y4 post k)⟩
    obtain ⟨u, u4, u5, u7⟩ : ∃ u, (D t = 4 → w = lN u ∧ u = m ∧ u ≤ 20) ∧ (D t = 5 ∨ D t = 8 → w = lN u ∧ u < P t) ∧ (D t = 7 → u = 0 ∧ w = lN u) := by
      by_cases e4 : D t = 4
      · exact ⟨m, fun _ => ⟨(qS.1 e4).1, rfl, (qS.1 e4).2⟩, fun q => by omega, fun q => by omega⟩
      · by_cases e5 : D t = 5 ∨ D t = 8
        · obtain ⟨u, u1, u2⟩ := qH.2.1 e5
          exact ⟨u, fun q => by omega, fun _ => ⟨u2, u1⟩, fun q => by omega⟩
        · exact ⟨0, fun q => by omega, fun q => absurd q e5, fun q => ⟨rfl, qH.2.2 (by omega)⟩⟩
    have p6 : D t = 6 → p1 + B t ≤ p1 + m := fun q => by have := qS.2.1 q; omega
    refine ⟨_, 1, (if 7 ≤ D t then 1 else 0), p1 + m, _, _, _, _, _, _, _, _, _, _, by omega, q2, rfl,
      rd_root (m := u) ht (by omega) (fun q => by have := u4 q; omega) (fun q => (u5 q).2) (fun q => (u7 q).1) p6, ⟨?_, ?_, ⟨?_, ?_⟩, ?_⟩, rfl, rfl, rfl, rfl, rfl, rfl, rfl⟩
    · intro j hj
      obtain rfl : j = 0 := by omega
      exact ⟨rfl, rfl, rfl, rfl, rfl⟩
    · intro j hj
      obtain rfl : j = 0 := by omega
      refine ⟨fun q => qH.2.2 (Or.inl q), fun (q : D t = 1 ∨ D t = 2 ∨ D t = 3) => y2 (by unfold bg_K; omega), fun (q : D t = 4 ∨ D t = 5 ∨ D t = 7 ∨ D t = 8) => ?_⟩
      have e : w = lN u := by
        rcases q with q | q | q | q
        · exact (u4 q).1
        · exact (u5 (Or.inl q)).1
        · exact (u7 q).2
        · exact (u5 (Or.inr q)).1
      refine ⟨e, ?_⟩
      by_cases e7 : D t = 7
      · show yv' 0 = lN u
        rw [y3 e7, (u7 e7).1]; rfl
      · show yv' 0 = lN u
        rw [y2 (by unfold bg_K; omega), e]
    · intro j hj
      obtain rfl : j = 0 := by omega
      exact ⟨fun _ => rfl, fun (q : 0 < 0) => by omega⟩
    · intro s hs hs1; omega
    · intro i hi
      by_cases k7 : 7 ≤ D t
      · rw [if_pos k7] at hi
        obtain rfl : i = 0 := by omega
        simp only [if_pos k7]
        exact ⟨rfl, rfl, rfl, fun _ => ⟨rfl, rfl⟩, fun _ => ⟨rfl, rfl⟩, fun (q : 0 < 0) => by omega⟩
      · rw [if_neg k7] at hi; omega
  · unfold bg_FX at hX
    unfold bg_FY at hY
    obtain ⟨sx, hX'⟩ := hX xT xC xG 0 xS xK xI kn ka kh kd kf vt va ve xo xt xp xl xd xm xz xu xe xc xf nu rs vn
    obtain ⟨sy, hY'⟩ := hY xT yW xC xG 1 0 yO kf kn ka kg kh yw (upd yt 0 (nI t)) ys (upd yc 0 (-1)) yl (upd yn 0 (-1)) yo ym yf tv tt tg yp yh nu rs yv
    exact ⟨f, sx, sy, fun q => absurd q hf, fun post k => SX1 post (hX' post k), fun post k => SY1 post (hY' post k)⟩
theorem go_loop (hA : sc_A D B P I kk kb kp ki) (hS : sc_T T D B P I kn kh kd kg) (hB : by_ok xb yb bb) (hL : L ≤ 100) (x2 : Int32) : ∀ (m M : Nat) (sx : rd_SX) (sy : rd_SY), M < m → go_G T L D B P M sx sy →
    ∃ (f : Int32) (sx' : rd_SX) (sy' : rd_SY), (f = 0 → ∃ M', go_G T L D B P M' sx' sy' ∧ sx'.2.2.1 = nI 0)
      ∧ (∀ post : Int32 → SX → Prop, (fun sx => (wX_read_63 post x2 xT (nI L) xC xG sx.1 sx.2.1 f sx.2.2.1 sx.2.2.2.1 xS xK xI kk kb kp kn ki ka kh kd kf xb nu rs sx.2.2.2.2.1 sx.2.2.2.2.2.1 sx.2.2.2.2.2.2.1 sx.2.2.2.2.2.2.2.1 sx.2.2.2.2.2.2.2.2.1 sx.2.2.2.2.2.2.2.2.2.1 sx.2.2.2.2.2.2.2.2.2.2.1 sx.2.2.2.2.2.2.2.2.2.2.2 xd xm xz xu xe xc xf)) sx' → ∃ n, (wX_read_42 post x2 n xT (nI L) xC xG sx.1 sx.2.1 0 sx.2.2.1 sx.2.2.2.1 xS xK xI kk kb kp kn ki ka kh kd kf xb nu rs sx.2.2.2.2.1 sx.2.2.2.2.2.1 sx.2.2.2.2.2.2.1 sx.2.2.2.2.2.2.2.1 sx.2.2.2.2.2.2.2.2.1 sx.2.2.2.2.2.2.2.2.2.1 sx.2.2.2.2.2.2.2.2.2.2.1 sx.2.2.2.2.2.2.2.2.2.2.2 xd xm xz xu xe xc xf))
      ∧ (∀ post : Int32 → SY → Prop, (fun sy => (wY_read_86 post x2 xT (nI L) yW xC xG sy.1 sy.2.1 sy.2.2.1 sy.2.2.2.1 f yO kk kb kp kf kn ki ka kg kh yb yw nu rs sy.2.2.2.2.1 sy.2.2.2.2.2.1 sy.2.2.2.2.2.2.1 sy.2.2.2.2.2.2.2.1 sy.2.2.2.2.2.2.2.2.1 sy.2.2.2.2.2.2.2.2.2.1 sy.2.2.2.2.2.2.2.2.2.2.1 sy.2.2.2.2.2.2.2.2.2.2.2.1 sy.2.2.2.2.2.2.2.2.2.2.2.2 tv tt tg yp yh)) sy' → ∃ n, (wY_read_65 post x2 n xT (nI L) yW xC xG sy.1 sy.2.1 sy.2.2.1 sy.2.2.2.1 0 yO kk kb kp kf kn ki ka kg kh yb yw nu rs sy.2.2.2.2.1 sy.2.2.2.2.2.1 sy.2.2.2.2.2.2.1 sy.2.2.2.2.2.2.2.1 sy.2.2.2.2.2.2.2.2.1 sy.2.2.2.2.2.2.2.2.2.1 sy.2.2.2.2.2.2.2.2.2.2.1 sy.2.2.2.2.2.2.2.2.2.2.2.1 sy.2.2.2.2.2.2.2.2.2.2.2.2 tv tt tg yp yh)) := by
  intro m
  induction m with
  | zero => intro M sx sy h; omega
  | succ m ih =>
    intro M sx sy hm hG
    have hG0 := hG
    obtain ⟨xV, xA, xD, xN, vt, vn, va, ve, xo, xt, xp, xl⟩ := sx
    obtain ⟨yV, yD, yR, yA, yt, ys, yc, yl, yn, yv, yo, ym, yf⟩ := sy
    obtain ⟨N, d, p, ty, st, en, mb, par, idx, cm, lc, op, lf, h0, hp, hM, hP, hR, e1, e2, e3, e4, e5, e6, e7⟩ := hG
    dsimp only at hR e1 e2 e3 e4 e5 e6 e7
    subst e1 e2 e3 e4 e5 e6 e7
    by_cases z : d = 0
    · subst z
      exact ⟨0, _, _, fun _ => ⟨M, hG0, rfl⟩, fun post k => ⟨1, br_t rfl (br_t (show nI 0 ≤ 0 by decide) k)⟩, fun post k => ⟨1, br_t (show nI 0 ≤ 0 by decide) k⟩⟩
    · have nd : ¬ nI d ≤ 0 := fun q => z ((ba_le0 (by have := hP.1; omega)).mp q)
      obtain ⟨f, sx1, sy1, h1, hX, hY⟩ := go_on (v := op (d - 1)) (xT := xT) (xC := xC) (xG := xG) (xS := xS) (xK := xK) (xI := xI) (ka := ka) (kf := kf) (nu := nu) (rs := rs) (xd := xd) (xm := xm) (xz := xz) (xu := xu) (xe := xe) (xc := xc) (xf := xf) (yW := yW) (yO := yO) (yw := yw) (tv := tv) (tt := tt) (tg := tg) (yp := yp) (yh := yh) hA hS hB hL hp hP hR (by omega) rfl
      by_cases hf : f = 0
      · subst hf
        obtain ⟨M1, hM1, hG1⟩ := h1 rfl
        obtain ⟨f2, sx2, sy2, h2, hX2, hY2⟩ := ih M1 sx1 sy1 (by omega) hG1
        refine ⟨f2, sx2, sy2, h2, fun post k => ?_, fun post k => ?_⟩
        · obtain ⟨n, hn⟩ := hX2 post k
          exact ⟨n + 1, br_t rfl (br_f nd (hX _ hn))⟩
        · obtain ⟨n, hn⟩ := hY2 post k
          exact ⟨n + 1, br_f nd (br_t rfl (hY _ hn))⟩
      · refine ⟨f, sx1, sy1, fun q => absurd q hf, fun post k => ⟨2, br_t rfl (br_f nd (hX _ (br_f hf k)))⟩, fun post k => ⟨2, br_f nd (br_t rfl (hY _ ?_))⟩⟩
        exact br_c (fun _ => k) (fun _ => br_f hf k)
end
end
section
section
variable {xT xL xC xG xV xA xF xD xN xS xK xI yW yV yD yR yA yF yO : Int32} {kk kb kp kn ki ka kh kd kf xb vt va ve xo xt xp xl xd xm xz xu xe xc xf kg yb yw yt ys yc yl yn yo ym yf tv tt tg yp yh : Nat → Int32} {nu rs vn yv : Nat → Int64}
variable {D B P I bb : Nat → Nat} {T L N d p t : Nat}
/-! what is given: how many, the fault, the row -/
abbrev gv_T : Type := Nat × Int32 × (Nat → Int64)
def gv (G : gv_T) (v : Int64) : gv_T := if G.2.1 = 0 then (if G.1 = 150 then (150, -7, G.2.2) else (G.1 + 1, 0, vp_updL G.2.2 G.1 v)) else G
def gv_ok (G : gv_T) : Prop := G.1 ≤ 150 ∧ (G.2.1 = 0 ∨ G.1 = 150)
theorem gv_k {G : gv_T} (h : gv_ok G) (v : Int64) : gv_ok (gv G v) := by
  obtain ⟨h1, h2⟩ := h
  unfold gv
  split
  · split
    · exact ⟨Nat.le_refl _, Or.inr rfl⟩
    · exact ⟨by show G.1 + 1 ≤ 150; omega, Or.inl rfl⟩
  · exact ⟨h1, h2⟩
theorem gx_give {G : gv_T} (h : gv_ok G) {v : Int64} {post : SX → Prop} (k : post (xT, xL, xC, nI (gv G v).1, xV, xA, (gv G v).2.1, xD, xN, xS, xK, xI, kk, kb, kp, kn, ki, ka, kh, kd, kf, xb, nu, (gv G v).2.2, vt, vn, va, ve, xo, xt, xp, xl, xd, xm, xz, xu, xe, xc, xf)) : (wpX_give post (xT, xL, xC, nI G.1, xV, xA, G.2.1, xD, xN, xS, xK, xI, kk, kb, kp, kn, ki, ka, kh, kd, kf, xb, nu, G.2.2, vt, vn, va, ve, xo, xt, xp, xl, xd, xm, xz, xu, xe, xc, xf) v) := by
  obtain ⟨g, f, rs⟩ := G
  obtain ⟨h1, h2⟩ := h
  dsimp only at h1 h2 k ⊢
  by_cases e : f = 0
  · subst e
    by_cases e1 : g = 150
    · subst e1
      exact xf_give_f k
    · have eg : gv (g, 0, rs) v = (g + 1, 0, vp_updL rs g v) := by
        unfold gv
        rw [if_pos rfl, if_neg e1]
      rw [eg] at k
      exact xf_give (by omega) k
  · have eg : gv (g, f, rs) v = (g, f, rs) := by unfold gv; rw [if_neg e]
    rw [eg] at k
    have e1 : g = 150 := h2.resolve_left e
    subst e1
    exact xf_give_n e k
theorem gy_out {G : gv_T} (h : gv_ok G) {v : Int64} {post : SY → Prop} (k : post (xT, xL, yW, xC, nI (gv G v).1, yV, yD, yR, yA, (gv G v).2.1, yO, kk, kb, kp, kf, kn, ki, ka, kg, kh, yb, yw, nu, (gv G v).2.2, yt, ys, yc, yl, yn, yv, yo, ym, yf, tv, tt, tg, yp, yh)) : (wpY_out post (xT, xL, yW, xC, nI G.1, yV, yD, yR, yA, G.2.1, yO, kk, kb, kp, kf, kn, ki, ka, kg, kh, yb, yw, nu, G.2.2, yt, ys, yc, yl, yn, yv, yo, ym, yf, tv, tt, tg, yp, yh) v) := by
  obtain ⟨g, f, rs⟩ := G
  obtain ⟨h1, h2⟩ := h
  dsimp only at h1 h2 k ⊢
  by_cases e : f = 0
  · subst e
    by_cases e1 : g = 150
    · subst e1
      exact yf_out_f k
    · have eg : gv (g, 0, rs) v = (g + 1, 0, vp_updL rs g v) := by
        unfold gv
        rw [if_pos rfl, if_neg e1]
      rw [eg] at k
      exact yf_out (by omega) k
  · have eg : gv (g, f, rs) v = (g, f, rs) := by unfold gv; rw [if_neg e]
    rw [eg] at k
    exact yf_out_n e k
def gv_l (vals : Nat → Int64) : Nat → Nat → gv_T → gv_T
  | 0, _, G => G
  | m + 1, k, G => gv_l vals m (k + 1) (gv G (vals k))
theorem gv_lk (vals : Nat → Int64) : ∀ (m k : Nat) (G : gv_T), gv_ok G → gv_ok (gv_l vals m k G) := by
  intro m
  induction m with
  | zero => exact fun k G h => h
  | succ m ih => exact fun k G h => ih (k + 1) _ (gv_k h _)
def gv_b (bb : Nat → Nat) (a : Nat) : Nat → Int64 := fun k => (nI (bb (a + k))).toInt64
theorem gx_copy2 (hB : by_ok xb yb bb) {a M : Nat} (ha : a + M ≤ 100) {post : SX → Prop} : ∀ (m k n : Nat) (G : gv_T), k + m = M → m < n → gv_ok G → post (xT, xL, xC, nI (gv_l (gv_b bb a) m k G).1, xV, xA, (gv_l (gv_b bb a) m k G).2.1, xD, xN, xS, xK, xI, kk, kb, kp, kn, ki, ka, kh, kd, kf, xb, nu, (gv_l (gv_b bb a) m k G).2.2, vt, vn, va, ve, xo, xt, xp, xl, xd, xm, xz, xu, xe, xc, xf) → (wX_copy_2 post (nI a) (nI M) n (nI k) xT xL xC (nI G.1) xV xA G.2.1 xD xN xS xK xI kk kb kp kn ki ka kh kd kf xb nu G.2.2 vt vn va ve xo xt xp xl xd xm xz xu xe xc xf) := by
  intro m
  induction m with
  | zero =>
    intro k n G hk hn hG h
    obtain ⟨n, rfl⟩ : ∃ n', n = n' + 1 := ⟨n - 1, by omega⟩
    exact br_t (nI_le (by omega) (by omega)) h
  | succ m ih =>
    intro k n G hk hn hG h
    obtain ⟨n, rfl⟩ : ∃ n', n = n' + 1 := ⟨n - 1, by omega⟩
    refine br_f (nI_ge (by omega) (by omega)) ?_
    rw [nI_add, nI_clamp (by omega), (hB (a + k)).1]
    exact ⟨vp_in_nI (by omega) (by decide), gx_give hG (nm_r (nI_1 k) (ih (k + 1) n _ (by omega) (by omega) (gv_k hG _) h))⟩
theorem gx_copy (hB : by_ok xb yb bb) {a M : Nat} (ha : a + M ≤ 100) {post : SX → Prop} {G : gv_T} (hG : gv_ok G) (h : post (xT, xL, xC, nI (gv_l (gv_b bb a) M 0 G).1, xV, xA, (gv_l (gv_b bb a) M 0 G).2.1, xD, xN, xS, xK, xI, kk, kb, kp, kn, ki, ka, kh, kd, kf, xb, nu, (gv_l (gv_b bb a) M 0 G).2.2, vt, vn, va, ve, xo, xt, xp, xl, xd, xm, xz, xu, xe, xc, xf)) : (wpX_copy post (xT, xL, xC, nI G.1, xV, xA, G.2.1, xD, xN, xS, xK, xI, kk, kb, kp, kn, ki, ka, kh, kd, kf, xb, nu, G.2.2, vt, vn, va, ve, xo, xt, xp, xl, xd, xm, xz, xu, xe, xc, xf) (nI a) (nI M)) :=
  Exists.intro (M + 1) (gx_copy2 hB ha M 0 _ G (by omega) (by omega) hG h)
theorem gy_95 (hA : sc_A D B P I kk kb kp ki) (hB : by_ok xb yb bb) {a M w n : Nat} (ha : a + M ≤ 100) (hw : w < 20) (h7 : ¬ D w = 7) (hn : n < 400) (hs : ys n = nI a) {x3 : Int32} {post : SY → Prop} : ∀ (m k f : Nat) (G : gv_T), k + m = M → m < f → gv_ok G → post (xT, xL, yW, xC, nI (gv_l (gv_b bb a) m k G).1, yV, yD, yR, yA, (gv_l (gv_b bb a) m k G).2.1, yO, kk, kb, kp, kf, kn, ki, ka, kg, kh, yb, yw, nu, (gv_l (gv_b bb a) m k G).2.2, yt, ys, yc, yl, yn, yv, yo, ym, yf, tv, tt, tg, yp, yh) → (wY_plain_95 post (nI n) (nI w) x3 (nI M) f (nI k) xT xL yW xC (nI G.1) yV yD yR yA G.2.1 yO kk kb kp kf kn ki ka kg kh yb yw nu G.2.2 yt ys yc yl yn yv yo ym yf tv tt tg yp yh) := by
  intro m
  have h9 := sc_k9 hA w
  induction m with
  | zero =>
    intro k f G hk hf hG h
    obtain ⟨f, rfl⟩ : ∃ n', f = n' + 1 := ⟨f - 1, by omega⟩
    exact br_t (nI_le (by omega) (by omega)) ⟨vp_in_nI hw (by decide), br_f (by rw [bg_ck hA hw rfl]; exact fun q => h7 ((ba_e7 (by omega)).mp q)) h⟩
  | succ m ih =>
    intro k f G hk hf hG h
    obtain ⟨f, rfl⟩ : ∃ n', f = n' + 1 := ⟨f - 1, by omega⟩
    refine br_f (nI_ge (by omega) (by omega)) ⟨vp_in_nI hn (by decide), ?_⟩
    rw [nI_clamp (n := n) (by omega), hs, nI_add, nI_clamp (by omega), (hB (a + k)).2.1]
    exact ⟨vp_in_nI (by omega) (by decide), gy_out hG (nm_r (nI_1 k) (ih (k + 1) f _ (by omega) (by omega) (gv_k hG _) h))⟩
theorem gx_201 (hA : sc_A D B P I kk kb kp ki) {u : Nat} (hu : u < 20) {dv : Int32} {post : SX → Prop} : ∀ (m k n : Nat) (G : gv_T), k + m = B u → m < n → gv_ok G → post (xT, xL, xC, nI (gv_l (fun _ => (dv &&& 255).toInt64) m k G).1, xV, xA, (gv_l (fun _ => (dv &&& 255).toInt64) m k G).2.1, xD, xN, xS, xK, xI, kk, kb, kp, kn, ki, ka, kh, kd, kf, xb, nu, (gv_l (fun _ => (dv &&& 255).toInt64) m k G).2.2, vt, vn, va, ve, xo, xt, xp, xl, xd, xm, xz, xu, xe, xc, xf) → (wX_giveDefault_201 post dv (nI u) n (nI k) xT xL xC (nI G.1) xV xA G.2.1 xD xN xS xK xI kk kb kp kn ki ka kh kd kf xb nu G.2.2 vt vn va ve xo xt xp xl xd xm xz xu xe xc xf) := by
  intro m
  have h20 := sc_b20 hA u
  induction m with
  | zero =>
    intro k n G hk hn hG h
    obtain ⟨n, rfl⟩ : ∃ n', n = n' + 1 := ⟨n - 1, by omega⟩
    exact And.intro (vp_in_nI hu (by decide)) (br_t (by rw [nI_clamp (by omega), sc_b hA]; exact nI_le (by omega) (by omega)) h)
  | succ m ih =>
    intro k n G hk hn hG h
    obtain ⟨n, rfl⟩ : ∃ n', n = n' + 1 := ⟨n - 1, by omega⟩
    exact And.intro (vp_in_nI hu (by decide)) (br_f (by rw [nI_clamp (by omega), sc_b hA]; exact nI_ge (by omega) (by omega)) (gx_give hG (nm_r (nI_1 k) (ih (k + 1) n _ (by omega) (by omega) (gv_k hG _) h))))
theorem gy_161 (hA : sc_A D B P I kk kb kp ki) {u : Nat} (hu : u < 20) {dv : Int32} {post : SY → Prop} : ∀ (m k n : Nat) (G : gv_T), k + m = B u → m < n → gv_ok G → post (xT, xL, yW, xC, nI (gv_l (fun _ => (dv &&& 255).toInt64) m k G).1, yV, yD, yR, yA, (gv_l (fun _ => (dv &&& 255).toInt64) m k G).2.1, yO, kk, kb, kp, kf, kn, ki, ka, kg, kh, yb, yw, nu, (gv_l (fun _ => (dv &&& 255).toInt64) m k G).2.2, yt, ys, yc, yl, yn, yv, yo, ym, yf, tv, tt, tg, yp, yh) → (wY_byDefault_161 post (nI u) dv n (nI k) xT xL yW xC (nI G.1) yV yD yR yA G.2.1 yO kk kb kp kf kn ki ka kg kh yb yw nu G.2.2 yt ys yc yl yn yv yo ym yf tv tt tg yp yh) := by
  intro m
  have h20 := sc_b20 hA u
  induction m with
  | zero =>
    intro k n G hk hn hG h
    obtain ⟨n, rfl⟩ : ∃ n', n = n' + 1 := ⟨n - 1, by omega⟩
    exact And.intro (vp_in_nI hu (by decide)) (br_t (by rw [nI_clamp (by omega), sc_b hA]; exact nI_le (by omega) (by omega)) h)
  | succ m ih =>
    intro k n G hk hn hG h
    obtain ⟨n, rfl⟩ : ∃ n', n = n' + 1 := ⟨n - 1, by omega⟩
    exact And.intro (vp_in_nI hu (by decide)) (br_f (by rw [nI_clamp (by omega), sc_b hA]; exact nI_ge (by omega) (by omega)) (gy_out hG (nm_r (nI_1 k) (ih (k + 1) n _ (by omega) (by omega) (gv_k hG _) h))))
end
end
section
section
variable {xT xL xC xG xV xA xF xD xN xS xK xI yW yV yD yR yA yF yO : Int32} {kk kb kp kn ki ka kh kd kf xb vt va ve xo xt xp xl xd xm xz xu xe xc xf kg yb yw yt ys yc yl yn yo ym yf tv tt tg yp yh : Nat → Int32} {nu rs vn yv : Nat → Int64}
variable {D B P I bb : Nat → Nat} {T L N d p t : Nat} {ty st en mb par idx cm lc op lf : Nat → Nat}
/-! the values that were read, all of them -/
def tr_ok (T L : Nat) (D B P : Nat → Nat) (N : Nat) (ty st en mb par idx cm : Nat → Nat) (vt va ve yt ys yc yn : Nat → Int32) (vn yv : Nat → Int64) : Prop :=
  (0 < N ∧ N ≤ 400) ∧ rd_V T D B P N L ty st en mb ∧ rd_T D N ty st en par idx cm ∧ (∀ v, v < N → cm v = rd_nch D P ty mb v ∧ (∀ s, 0 < s → s < N → par s = v → en s ≤ en v)) ∧ rr_A N ty st en vt va ve yt ys ∧ rr_B D N ty mb vn yv ∧ rr_C N en par idx cm yc yn
theorem tr_of (hp : p ≤ L) (h0 : 0 < N) (h : rd_P T D B P N 0 p ty st en mb par idx cm lc op lf) (R : rr_R D N 0 ty st en mb par idx cm lc op lf vt va ve xo xt xp xl yt ys yc yl yn yo ym yf vn yv) : tr_ok T L D B P N ty st en mb par idx cm vt va ve yt ys yc yn vn yv := by
  obtain ⟨⟨g1, g2⟩, hV, hO, hC, hI, hT, hW⟩ := h
  obtain ⟨rA, rB, rC, rS⟩ := R
  refine ⟨⟨h0, g2⟩, ?_, hT, fun v hv => hW v hv (fun i hi => by omega), rA, rB, rC⟩
  intro j hj
  obtain ⟨a1, a2, a3, a4, a5, a6, a7, a8⟩ := hV j hj
  exact ⟨a1, by omega, a3, a4, fun q => by have := a5 q; omega, a6, a7, fun q => by have := a8 q; omega⟩
def tr_ch (en : Nat → Nat) : Nat → Nat → Nat
  | 0, n => n
  | j + 1, n => tr_ch en j (en n)
theorem tr_step (h : tr_ok T L D B P N ty st en mb par idx cm vt va ve yt ys yc yn vn yv) {c : Nat} (c0 : 0 < c) (cN : c < N) (hi : idx c + 1 < cm (par c)) : en c < N ∧ 0 < en c ∧ par (en c) = par c ∧ idx (en c) = idx c + 1 ∧ ve c = nI (en c) ∧ yn c = nI (en c) := by
  obtain ⟨g, hV, ⟨hT1, hT2, hT3⟩, hW, rA, rB, ⟨rC1, rC2⟩⟩ := h
  obtain ⟨a1, a2, a3, a4⟩ := hT2 c c0 cN
  obtain ⟨b1, b2, b3⟩ := a3 hi
  have := (hV c cN).2.2.1
  exact ⟨b1, by omega, b2, b3, (rA c cN).2.2.1, rC2 c c0 cN hi⟩
theorem tr_chain (h : tr_ok T L D B P N ty st en mb par idx cm vt va ve yt ys yc yn vn yv) : ∀ (j c : Nat), 0 < c → c < N → idx c + j < cm (par c) → tr_ch en j c < N ∧ 0 < tr_ch en j c ∧ par (tr_ch en j c) = par c ∧ idx (tr_ch en j c) = idx c + j := by
  intro j
  induction j with
  | zero => exact fun c c0 cN hi => ⟨cN, c0, rfl, rfl⟩
  | succ j ih =>
    intro c c0 cN hi
    obtain ⟨b1, b2, b3, b4, -, -⟩ := tr_step h c0 cN (by omega)
    obtain ⟨d1, d2, d3, d4⟩ := ih (en c) b2 b1 (by rw [b3, b4]; omega)
    exact ⟨d1, d2, by rw [← b3]; exact d3, by show idx (tr_ch en j (en c)) = _; rw [d4, b4]; omega⟩
theorem tr_fit (h : tr_ok T L D B P N ty st en mb par idx cm vt va ve yt ys yc yn vn yv) : ∀ (l c : Nat), 0 < c → c < N → idx c + (l + 1) = cm (par c) → c + (l + 1) ≤ en (par c) := by
  intro l
  induction l with
  | zero =>
    intro c c0 cN hi
    obtain ⟨g, hV, ⟨hT1, hT2, hT3⟩, hW, -⟩ := h
    have a := hT2 c c0 cN
    have b := (hV c cN).2.2.1
    have := (hW (par c) (by omega)).2 c c0 cN rfl
    omega
  | succ l ih =>
    intro c c0 cN hi
    obtain ⟨b1, b2, b3, b4, -, -⟩ := tr_step h c0 cN (by omega)
    have := ih (en c) b2 b1 (by rw [b3, b4]; omega)
    rw [b3] at this
    have b := (h.2.1 c cN).2.2.1
    omega
theorem tr_kid (h : tr_ok T L D B P N ty st en mb par idx cm vt va ve yt ys yc yn vn yv) {v : Nat} (hv : v < N) (hc : 0 < cm v) : v + 1 < N ∧ par (v + 1) = v ∧ idx (v + 1) = 0 ∧ yc v = nI (v + 1) := by
  obtain ⟨g, hV, ⟨hT1, hT2, hT3⟩, hW, rA, rB, ⟨rC1, rC2⟩⟩ := h
  obtain ⟨a, b, c⟩ := hT1 v hv hc
  exact ⟨a, b, c, (rC1 v hv).2 hc⟩
/-- the weight of a RECORD's level -/
def tr_w (r : Nat) : Nat := 7 ^ (11 - r)
theorem tr_ws {r : Nat} (h : r < 10) : tr_w r = 7 * tr_w (r + 1) := by
  unfold tr_w
  have e : 11 - r = (11 - (r + 1)) + 1 := by omega
  rw [e, Nat.pow_succ]; omega
theorem tr_w7 {r : Nat} (h : r ≤ 10) : 7 ≤ tr_w r := by
  unfold tr_w
  have e : 11 - r = (10 - r) + 1 := by omega
  rw [e, Nat.pow_succ]
  have : 0 < 7 ^ (10 - r) := Nat.pow_pos (by omega)
  omega
/-! X's stack against Y's list of what is to be done -/
def it_d (I : Nat → Nat) (kh kg tv tt tg : Nat → Int32) (r j q : Nat) : Prop := tv q = (if kh (5 * r + j) = 0 then -3 else -1) ∧ tt q = nI (I (5 * r + j)) ∧ tg q = kg (5 * r + j)
def it_v (P I : Nat → Nat) (kn ka kh kg : Nat → Int32) (ty en : Nat → Nat) (tv tt tg : Nat → Int32) (n r j q : Nat) : Prop :=
  (sc_pl P kn ka (ty n) r j = -1 ∧ it_d I kh kg tv tt tg r j q) ∨ (∃ g, g < P (ty n) ∧ sc_pl P kn ka (ty n) r j = nI g ∧ tv q = nI (tr_ch en g (n + 1)) ∧ tt q = nI (I (5 * r + j)))
def sk_A (D B : Nat → Nat) (N : Nat) (ty st en par idx cm : Nat → Nat) (xo xl tv tt : Nat → Int32) (i b' H' a' q' s' u' b H a q s u r : Nat) : Prop :=
  D r = 7 ∧ ∃ n l e, xo i = nI n ∧ xl i = nI l ∧ l ≤ 40 ∧ n ≤ 400 ∧ a' ≤ 100 ∧ n + l ≤ e ∧ e ≤ H' ∧ (0 < l → 0 < n ∧ n < N ∧ idx n + l = cm (par n) ∧ en (par n) ≤ e ∧ a' ≤ st (par n) ∧ D (ty (par n)) = 7)
    ∧ (∀ j, j < l → tv (b' + (l - 1 - j)) = nI (tr_ch en j n) ∧ tt (b' + (l - 1 - j)) = nI (B r)) ∧ b = b' + l ∧ H = n ∧ a = a' + 1 ∧ q = q' ∧ s = s' + l ∧ u = u' + tr_w q' * (e - n) + 1
def sk_R (D P I : Nat → Nat) (kn ka kh kg : Nat → Int32) (N : Nat) (ty st en : Nat → Nat) (xo xp tv tt tg : Nat → Int32) (i b' H' a' q' s' u' b H a q s u r : Nat) : Prop :=
  D r = 9 ∧ ∃ k, xp i = nI k ∧ k ≤ P r ∧ tv b' = -2 ∧ b = b' + 1 + (P r - k) ∧ H = H' ∧ a = a' ∧ q = q' + 1 ∧ s = s'
    ∧ ((xo i = -1 ∧ (∀ j, k ≤ j → j < P r → it_d I kh kg tv tt tg r j (b' + (P r - j))) ∧ u = u' + (P r - k) * tr_w q + 1)
      ∨ (∃ n, xo i = nI n ∧ n < N ∧ D (ty n) = 9 ∧ en n ≤ H' ∧ a' ≤ st n ∧ (∀ j, k ≤ j → j < P r → it_v P I kn ka kh kg ty en tv tt tg n r j (b' + (P r - j))) ∧ u = u' + (P r - k) * (tr_w q * (en n - n)) + 1))
def sk (T : Nat) (D B P I : Nat → Nat) (kn ka kh kg : Nat → Int32) (N : Nat) (ty st en par idx cm : Nat → Nat) (xo xt xp xl tv tt tg : Nat → Int32) : Nat → Nat → Nat → Nat → Nat → Nat → Nat → Prop
  | 0 => fun b H a q s u => b = 0 ∧ H = N ∧ a = 0 ∧ q = 0 ∧ s = 0 ∧ u = 0
  | i + 1 => fun b H a q s u => ∃ b' H' a' q' s' u' r, sk T D B P I kn ka kh kg N ty st en par idx cm xo xt xp xl tv tt tg i b' H' a' q' s' u' ∧ r < T ∧ xt i = nI r
      ∧ (sk_A D B N ty st en par idx cm xo xl tv tt i b' H' a' q' s' u' b H a q s u r ∨ sk_R D P I kn ka kh kg N ty st en xo xp tv tt tg i b' H' a' q' s' u' b H a q s u r)
theorem sk_bd (h5 : ∀ j, P j ≤ 5) : ∀ (i b H a q s u : Nat), sk T D B P I kn ka kh kg N ty st en par idx cm xo xt xp xl tv tt tg i b H a q s u → b ≤ s + 6 * q ∧ s + H ≤ N ∧ i = a + q ∧ a ≤ 101 := by
  intro i
  induction i with
  | zero =>
    intro b H a q s u h
    obtain ⟨h1, h2, h3, h4, h6, h7⟩ := h
    omega
  | succ i ih =>
    intro b H a q s u h
    obtain ⟨b', H', a', q', s', u', r, h1, hr, hx, h2 | h2⟩ := h
    · obtain ⟨e1, e2, e3, e4⟩ := ih _ _ _ _ _ _ h1
      obtain ⟨-, n, l, e, -, -, -, -, c1, c2, c3, -, -, c4, c5, c6, c7, c8, -⟩ := h2
      omega
    · obtain ⟨e1, e2, e3, e4⟩ := ih _ _ _ _ _ _ h1
      obtain ⟨-, k, -, c1, -, c2, c3, c4, c5, c6, -⟩ := h2
      have := h5 r
      omega
theorem it_fr {n r j q : Nat} {tv' tt' tg' : Nat → Int32} (h : it_v P I kn ka kh kg ty en tv tt tg n r j q) (e : tv' q = tv q ∧ tt' q = tt q ∧ tg' q = tg q) : it_v P I kn ka kh kg ty en tv' tt' tg' n r j q := by
  obtain ⟨e1, e2, e3⟩ := e
  rcases h with ⟨h1, h2, h3, h4⟩ | ⟨g, h1, h2, h3, h4⟩
  · exact Or.inl ⟨h1, by rw [e1]; exact h2, by rw [e2]; exact h3, by rw [e3]; exact h4⟩
  · exact Or.inr ⟨g, h1, h2, by rw [e1]; exact h3, by rw [e2]; exact h4⟩
theorem sk_fr {xo' xt' xp' xl' tv' tt' tg' : Nat → Int32} : ∀ (i b H a q s u : Nat), sk T D B P I kn ka kh kg N ty st en par idx cm xo xt xp xl tv tt tg i b H a q s u → (∀ j, j < i → xo' j = xo j ∧ xt' j = xt j ∧ xp' j = xp j ∧ xl' j = xl j) → (∀ j, j < b → tv' j = tv j ∧ tt' j = tt j ∧ tg' j = tg j) → sk T D B P I kn ka kh kg N ty st en par idx cm xo' xt' xp' xl' tv' tt' tg' i b H a q s u := by
  intro i
  induction i with
  | zero => exact fun b H a q s u h _ _ => h
  | succ i ih =>
    intro b H a q s u h hx hy
    obtain ⟨b', H', a', q', s', u', r, h1, hr, hxt, h2⟩ := h
    obtain ⟨x1, x2, x3, x4⟩ := hx i (by omega)
    have hb : b' ≤ b := by
      rcases h2 with h2 | h2
      · obtain ⟨-, n, l, e, -, -, -, -, -, -, -, -, -, c4, -⟩ := h2; omega
      · obtain ⟨-, k, -, -, -, c2, -⟩ := h2; omega
    refine ⟨b', H', a', q', s', u', r, ih _ _ _ _ _ _ h1 (fun j hj => hx j (by omega)) (fun j hj => hy j (by omega)), hr, by rw [x2]; exact hxt, ?_⟩
    rcases h2 with h2 | h2
    · obtain ⟨k7, n, l, e, c1, c2, c3, c4, c5, c6, c7, c8, c9, d1, d2⟩ := h2
      refine Or.inl ⟨k7, n, l, e, by rw [x1]; exact c1, by rw [x4]; exact c2, c3, c4, c5, c6, c7, c8, fun j hj => ?_, d1, d2⟩
      obtain ⟨y1, y2, y3⟩ := hy (b' + (l - 1 - j)) (by omega)
      rw [y1, y2]; exact c9 j hj
    · obtain ⟨k9, k, c1, c2, c3, c4, c5, c6, c7, c8, c9⟩ := h2
      refine Or.inr ⟨k9, k, by rw [x3]; exact c1, c2, by rw [(hy b' (by omega)).1]; exact c3, c4, c5, c6, c7, c8, ?_⟩
      rcases c9 with ⟨d1, d2, d3⟩ | ⟨n, d1, d2, d3, d4, d5, d6, d7⟩
      · refine Or.inl ⟨by rw [x1]; exact d1, fun j j1 j2 => ?_, d3⟩
        obtain ⟨y1, y2, y3⟩ := hy (b' + (P r - j)) (by omega)
        obtain ⟨z1, z2, z3⟩ := d2 j j1 j2
        exact ⟨by rw [y1]; exact z1, by rw [y2]; exact z2, by rw [y3]; exact z3⟩
      · refine Or.inr ⟨n, by rw [x1]; exact d1, d2, d3, d4, d5, fun j j1 j2 => ?_, d7⟩
        exact it_fr (d6 j j1 j2) (hy (b' + (P r - j)) (by omega))
end
end
section
section
variable {xT xL xC xG xV xA xF xD xN xS xK xI yW yV yD yR yA yF yO : Int32} {kk kb kp kn ki ka kh kd kf xb vt va ve xo xt xp xl xd xm xz xu xe xc xf kg yb yw yt ys yc yl yn yo ym yf tv tt tg yp yh : Nat → Int32} {nu rs vn yv : Nat → Int64}
variable {D B P I bb : Nat → Nat} {T L N d p t : Nat} {ty st en mb par idx cm lc op lf : Nat → Nat}
theorem pu_m (m : Nat) : nI m + (-1) = nI m - 1 := (Int32.sub_eq_add_neg _ _).symm
theorem pu_0 : nI 0 - 1 < 0 := by decide
/-- Y's row of defaults -/
theorem pu_243 (hA : sc_A D B P I kk kb kp ki) {u b : Nat} (hu : u < 20) (hb : b + 1 + P u < 2000) : ∀ (m n : Nat) (tv tt tg : Nat → Int32), m ≤ P u → m < n →
    ∃ tv' tt' tg' : Nat → Int32, (∀ q, q ≤ b + (P u - m) → tv' q = tv q ∧ tt' q = tt q ∧ tg' q = tg q) ∧ (∀ j, j < m → it_d I kh kg tv' tt' tg' u j (b + (P u - j)))
      ∧ (∀ post : SY → Prop, post (xT, xL, yW, xC, xG, yV, yD, yR, yA, yF, nI (b + 1 + P u), kk, kb, kp, kf, kn, ki, ka, kg, kh, yb, yw, nu, rs, yt, ys, yc, yl, yn, yv, yo, ym, yf, tv', tt', tg', yp, yh) → (wY_byDefault_243 post (nI u) n (nI m - 1) xT xL yW xC xG yV yD yR yA yF (nI (b + 1 + (P u - m))) kk kb kp kf kn ki ka kg kh yb yw nu rs yt ys yc yl yn yv yo ym yf tv tt tg yp yh)) := by
  intro m
  have h5 := sc_p5 hA u
  induction m with
  | zero =>
    intro n tv tt tg hm hn
    obtain ⟨n, rfl⟩ : ∃ n', n = n' + 1 := ⟨n - 1, by omega⟩
    exact ⟨tv, tt, tg, fun q _ => ⟨rfl, rfl, rfl⟩, fun j hj => by omega, fun post k => br_t pu_0 k⟩
  | succ m ih =>
    intro n tv tt tg hm hn
    obtain ⟨n, rfl⟩ : ∃ n', n = n' + 1 := ⟨n - 1, by omega⟩
    obtain ⟨tv', tt', tg', h1, h2, h3⟩ := ih n (upd tv (b + 1 + (P u - (m + 1))) (if kh (5 * u + m) = 0 then -3 else -1)) (upd tt (b + 1 + (P u - (m + 1))) (nI (I (5 * u + m)))) (upd tg (b + 1 + (P u - (m + 1))) (kg (5 * u + m))) (by omega) (by omega)
    refine ⟨tv', tt', tg', fun q hq => ?_, fun j hj => ?_, fun post k => ?_⟩
    · obtain ⟨a1, a2, a3⟩ := h1 q (by omega)
      rw [a1, a2, a3, ba_un (by omega), ba_un (by omega), ba_un (by omega)]
      exact ⟨rfl, rfl, rfl⟩
    · by_cases e : j = m
      · subst e
        have eq : b + (P u - j) = b + 1 + (P u - (j + 1)) := by omega
        obtain ⟨a1, a2, a3⟩ := h1 (b + (P u - j)) (by omega)
        refine ⟨?_, ?_, ?_⟩
        · rw [a1, eq, ba_us]
        · rw [a2, eq, ba_us]
        · rw [a3, eq, ba_us]
      · exact h2 j (by omega)
    · rw [nI_pred]
      refine br_f (nI_pos (by omega)) ?_
      have v : vp_in (nI (5 * u + m)) 100 := vp_in_nI (by omega) (by decide)
      rw [ba_5, nI_add, nI_clamp (by omega)]
      refine ⟨v, ?_⟩
      have J : ∀ z : Int32, z = (if kh (5 * u + m) = 0 then -3 else -1) → (wY_byDefault_267 post (wY_byDefault_243 post (nI u) n) (nI u) (nI m) z xT xL yW xC xG yV yD yR yA yF (nI (b + 1 + (P u - (m + 1)))) kk kb kp kf kn ki ka kg kh yb yw nu rs yt ys yc yl yn yv yo ym yf tv tt tg yp yh) := by
        intro z hz
        unfold wY_byDefault_267
        rw [ba_5, nI_add, nI_clamp (by omega), sc_i hA]
        refine ⟨v, v, yf_later (by omega) (nm_r (pu_m m) ?_)⟩
        rw [hz]
        have e : b + 1 + (P u - (m + 1)) + 1 = b + 1 + (P u - m) := by omega
        rw [e]
        exact h3 post k
      by_cases z : kh (5 * u + m) = 0
      · exact br_t z (J _ (by rw [if_pos z]))
      · exact br_f z (J _ (by rw [if_neg z]))
/-- Y goes to a part -/
theorem pu_81 (hR : tr_ok T L D B P N ty st en mb par idx cm vt va ve yt ys yc yn vn yv) {post : SY → Prop} {J14 : Int32 → Int32 → Int32 → Int32 → Int32 → Int32 → Int32 → Int32 → Int32 → Int32 → Int32 → Int32 → (Nat → Int32) → (Nat → Int32) → (Nat → Int32) → (Nat → Int32) → (Nat → Int32) → (Nat → Int32) → (Nat → Int32) → (Nat → Int32) → (Nat → Int32) → (Nat → Int32) → (Nat → Int32) → (Nat → Int64) → (Nat → Int64) → (Nat → Int32) → (Nat → Int32) → (Nat → Int32) → (Nat → Int32) → (Nat → Int32) → (Nat → Int64) → (Nat → Int32) → (Nat → Int32) → (Nat → Int32) → (Nat → Int32) → (Nat → Int32) → (Nat → Int32) → (Nat → Int32) → (Nat → Int32) → Prop}
    {x1 x2 x3 x4 x5 : Int32} {g : Nat} (hg : g < 5) : ∀ (m i c n : Nat), i + m = g → m < n → 0 < c → c < N → idx c + m < cm (par c) →
    (wY_fields_130 post J14 x1 x2 x3 x4 x5 (nI (tr_ch en m c)) xT xL yW xC xG yV yD yR yA yF yO kk kb kp kf kn ki ka kg kh yb yw nu rs yt ys yc yl yn yv yo ym yf tv tt tg yp yh) → (wY_fields_81 post J14 x1 x2 x3 x4 x5 (nI g) xT xL yW xC xG yV yD yR yA yF yO kk kb kp kf kn ki ka kg kh yb yw nu rs yt ys yc yl yn yv yo ym yf tv tt tg yp yh n (nI c) (nI i)) := by
  intro m
  induction m with
  | zero =>
    intro i c n hi hn c0 cN hc k
    obtain ⟨n, rfl⟩ : ∃ n', n = n' + 1 := ⟨n - 1, by omega⟩
    exact br_t (nI_le (by omega) (by omega)) (br_f (nI_pos (by omega)) k)
  | succ m ih =>
    intro i c n hi hn c0 cN hc k
    obtain ⟨n, rfl⟩ : ∃ n', n = n' + 1 := ⟨n - 1, by omega⟩
    obtain ⟨b1, b2, b3, b4, b5, b6⟩ := tr_step hR c0 cN (by omega)
    have N4 := hR.1.2
    exact br_f (nI_ge (by omega) (by omega)) ⟨vp_in_nI (by omega) (by decide), nm_r (e' := nI (en c)) (by rw [nI_clamp (by omega), b6]) (nm_r (nI_1 i) (ih (i + 1) (en c) n (by omega) (by omega) b2 b1 (by rw [b3, b4]; omega) k))⟩
/-- Y's row of parts -/
theorem pu_14 (hA : sc_A D B P I kk kb kp ki) (hR : tr_ok T L D B P N ty st en mb par idx cm vt va ve yt ys yc yn vn yv) {v w r b : Nat} (hv : v < N) (hw : ty v = w) (h9 : D w = 9) (hw20 : w < 20) (hr : r < 20) (hb : b + 1 + P r < 2000) : ∀ (m n : Nat) (tv tt tg : Nat → Int32), m ≤ P r → m < n →
    ∃ tv' tt' tg' : Nat → Int32, (∀ q, q ≤ b + (P r - m) → tv' q = tv q ∧ tt' q = tt q ∧ tg' q = tg q) ∧ (∀ j, j < m → it_v P I kn ka kh kg ty en tv' tt' tg' v r j (b + (P r - j)))
      ∧ (∀ post : SY → Prop, post (xT, xL, yW, xC, xG, yV, yD, yR, yA, yF, nI (b + 1 + P r), kk, kb, kp, kf, kn, ki, ka, kg, kh, yb, yw, nu, rs, yt, ys, yc, yl, yn, yv, yo, ym, yf, tv', tt', tg', yp, yh) → (wY_fields_14 post (nI v) (nI w) (nI r) n (nI m - 1) xT xL yW xC xG yV yD yR yA yF (nI (b + 1 + (P r - m))) kk kb kp kf kn ki ka kg kh yb yw nu rs yt ys yc yl yn yv yo ym yf tv tt tg yp yh)) := by
  intro m
  have h5 := sc_p5 hA r
  have h5w := sc_p5 hA w
  have N4 := hR.1.2
  have cmv : cm v = P w := by
    rw [(hR.2.2.2.1 v hv).1]
    unfold rd_nch
    rw [hw, h9, if_neg (by decide), if_neg (by decide), if_pos rfl]
  have vv : vp_in (nI v) 400 := vp_in_nI (by omega) (by decide)
  have cv : (nI v).toNatClampNeg = v := nI_clamp (by omega)
  induction m with
  | zero =>
    intro n tv tt tg hm hn
    obtain ⟨n, rfl⟩ : ∃ n', n = n' + 1 := ⟨n - 1, by omega⟩
    exact ⟨tv, tt, tg, fun q _ => ⟨rfl, rfl, rfl⟩, fun j hj => by omega, fun post k => br_t pu_0 k⟩
  | succ m ih =>
    intro n tv tt tg hm hn
    obtain ⟨n, rfl⟩ : ∃ n', n = n' + 1 := ⟨n - 1, by omega⟩
    have v5 : vp_in (nI (5 * r + m)) 100 := vp_in_nI (by omega) (by decide)
    have c5 : (nI (5 * r + m)).toNatClampNeg = 5 * r + m := nI_clamp (by omega)
    -- what is laid down
    obtain ⟨x, hx⟩ : ∃ x : Int32, (sc_pl P kn ka w r m = -1 ∧ x = (if kh (5 * r + m) = 0 then -3 else -1)) ∨ (∃ g, g < P w ∧ sc_pl P kn ka w r m = nI g ∧ x = nI (tr_ch en g (v + 1))) := by
      rcases sc_pl_r (P := P) (kn := kn) (ka := ka) (w := w) r m h5w with e | ⟨g, g1, g2⟩
      · exact ⟨_, Or.inl ⟨e, rfl⟩⟩
      · exact ⟨_, Or.inr ⟨g, g1, g2, rfl⟩⟩
    obtain ⟨tv', tt', tg', h1, h2, h3⟩ := ih n (upd tv (b + 1 + (P r - (m + 1))) x) (upd tt (b + 1 + (P r - (m + 1))) (nI (I (5 * r + m)))) (upd tg (b + 1 + (P r - (m + 1))) (kg (5 * r + m))) (by omega) (by omega)
    refine ⟨tv', tt', tg', fun q hq => ?_, fun j hj => ?_, fun post k => ?_⟩
    · obtain ⟨a1, a2, a3⟩ := h1 q (by omega)
      rw [a1, a2, a3, ba_un (by omega), ba_un (by omega), ba_un (by omega)]
      exact ⟨rfl, rfl, rfl⟩
    · by_cases e : j = m
      · subst e
        have eq : b + (P r - j) = b + 1 + (P r - (j + 1)) := by omega
        obtain ⟨a1, a2, a3⟩ := h1 (b + (P r - j)) (by omega)
        have y1 : tv' (b + (P r - j)) = x := by rw [a1, eq, ba_us]
        have y2 : tt' (b + (P r - j)) = nI (I (5 * r + j)) := by rw [a2, eq, ba_us]
        have y3 : tg' (b + (P r - j)) = kg (5 * r + j) := by rw [a3, eq, ba_us]
        unfold it_v
        rw [hw]
        rcases hx with ⟨e1, e2⟩ | ⟨g, g1, g2, g3⟩
        · exact Or.inl ⟨e1, by rw [y1, e2], y2, y3⟩
        · exact Or.inr ⟨g, g1, g2, by rw [y1, g3], y2⟩
      · exact h2 j (by omega)
    · have J130 : (wY_fields_130 post (wY_fields_14 post (nI v) (nI w) (nI r) n) (nI v) (nI w) (nI r) (nI m) (nI (5 * r + m)) x xT xL yW xC xG yV yD yR yA yF (nI (b + 1 + (P r - (m + 1)))) kk kb kp kf kn ki ka kg kh yb yw nu rs yt ys yc yl yn yv yo ym yf tv tt tg yp yh) := by
        unfold wY_fields_130
        rw [c5, sc_i hA]
        refine ⟨v5, v5, yf_later (by omega) (nm_r (pu_m m) ?_)⟩
        have e : b + 1 + (P r - (m + 1)) + 1 = b + 1 + (P r - m) := by omega
        rw [e]
        exact h3 post k
      have J81 : ∃ n81, (wY_fields_81 post (wY_fields_14 post (nI v) (nI w) (nI r) n) (nI v) (nI w) (nI r) (nI m) (nI (5 * r + m)) (sc_pl P kn ka w r m) xT xL yW xC xG yV yD yR yA yF (nI (b + 1 + (P r - (m + 1)))) kk kb kp kf kn ki ka kg kh yb yw nu rs yt ys yc yl yn yv yo ym yf tv tt tg yp yh n81 (yc v) 0) := by
        rcases hx with ⟨e1, e2⟩ | ⟨g, g1, g2, g3⟩
        · rw [e1]
          refine ⟨1, br_t (by decide) (br_t (by decide) ⟨v5, ?_⟩)⟩
          rw [c5]
          by_cases z : kh (5 * r + m) = 0
          · rw [if_pos z] at e2
            rw [e2] at J130
            exact br_t z J130
          · rw [if_neg z] at e2
            rw [e2] at J130
            exact br_f z J130
        · obtain ⟨k1, k2, k3, k4⟩ := tr_kid hR hv (by omega)
          rw [g2, k4]
          rw [g3] at J130
          exact ⟨g + 1, pu_81 hR (by omega) g 0 (v + 1) _ (by omega) (by omega) (by omega) k1 (by rw [k2, k3]; omega) J130⟩
      rw [nI_pred]
      refine br_f (nI_pos (by omega)) (nm_r (e' := nI (5 * r + m)) (by rw [ba_5, nI_add]) ⟨v5, ?_⟩)
      rw [c5]
      refine yn_find hA hw20 ?_
      unfold sc_pl at J81
      by_cases z1 : 0 ≤ sc_find P kn w (kn (5 * r + m))
      · rw [if_pos z1] at J81
        exact br_t z1 ⟨vv, nm_r (e' := yc v) (by rw [cv]) J81⟩
      · rw [if_neg z1] at J81
        refine br_f z1 ⟨v5, ?_⟩
        by_cases z2 : ka (5 * r + m) < 0
        · rw [if_pos z2] at J81
          exact br_t z2 ⟨vv, nm_r (e' := yc v) (by rw [cv]) J81⟩
        · rw [if_neg z2] at J81
          exact br_f z2 ⟨v5, yn_find hA hw20 ⟨vv, nm_r (e' := yc v) (by rw [cv]) J81⟩⟩
/-- Y's row of elements -/
theorem pu_159 (hA : sc_A D B P I kk kb kp ki) (hR : tr_ok T L D B P N ty st en mb par idx cm vt va ve yt ys yc yn vn yv) {r b l : Nat} (hr : r < 20) (hl : l ≤ 40) (hb : b + l ≤ 2000) : ∀ (m k n c : Nat) (x6 : Int32) (tv tt : Nat → Int32), k + m = l → m < n → (0 < m → x6 = nI c ∧ 0 < c ∧ c < N ∧ idx c + m = cm (par c)) →
    ∃ tv' tt' : Nat → Int32, (∀ q, q < b ∨ b + m ≤ q → tv' q = tv q ∧ tt' q = tt q) ∧ (∀ j, j < m → tv' (b + (m - 1 - j)) = nI (tr_ch en j c) ∧ tt' (b + (m - 1 - j)) = nI (B r))
      ∧ (∀ post : SY → Prop, post (xT, xL, yW, xC, xG, yV, yD, yR, yA, yF, nI (b + l), kk, kb, kp, kf, kn, ki, ka, kg, kh, yb, yw, nu, rs, yt, ys, yc, yl, yn, yv, yo, ym, yf, tv', tt', tg, yp, yh) → (wY_plain_159 post (nI r) (nI l) xT xL yW xC xG yV yD yR yA yF (nI b) n x6 (nI k) kk kb kp kf kn ki ka kg kh yb yw nu rs yt ys yc yl yn yv yo ym yf tv tt tg yp yh)) := by
  intro m
  have N4 := hR.1.2
  induction m with
  | zero =>
    intro k n c x6 tv tt hk hn _
    obtain ⟨n, rfl⟩ : ∃ n', n = n' + 1 := ⟨n - 1, by omega⟩
    exact ⟨tv, tt, fun q _ => ⟨rfl, rfl⟩, fun j hj => by omega, fun post h => br_t (nI_le (by omega) (by omega)) (nm_r (nI_add b l) h)⟩
  | succ m ih =>
    intro k n c x6 tv tt hk hn hc
    obtain ⟨n, rfl⟩ : ∃ n', n = n' + 1 := ⟨n - 1, by omega⟩
    obtain ⟨rfl, c0, cN, ci⟩ := hc (by omega)
    have ei : nI b + nI l - 1 - nI k = nI (b + m) := by
      rw [nI_add, ba_s1 (by omega), pk_sub (by omega)]
      exact congrArg nI (by omega)
    obtain ⟨tv', tt', h1, h2, h3⟩ := ih (k + 1) n (en c) (yn c) (upd tv (b + m) (nI c)) (upd tt (b + m) (nI (B r))) (by omega) (by omega) (fun hm => by
      obtain ⟨b1, b2, b3, b4, b5, b6⟩ := tr_step hR c0 cN (by omega)
      exact ⟨b6, b2, b1, by rw [b3, b4]; omega⟩)
    refine ⟨tv', tt', fun q hq => ?_, fun j hj => ?_, fun post h => ?_⟩
    · obtain ⟨a1, a2⟩ := h1 q (by omega)
      rw [a1, a2, ba_un (by omega), ba_un (by omega)]
      exact ⟨rfl, rfl⟩
    · cases j with
      | zero =>
        have e : b + (m + 1 - 1 - 0) = b + m := by omega
        obtain ⟨a1, a2⟩ := h1 (b + m) (by omega)
        rw [e, a1, a2, ba_us, ba_us]
        exact ⟨rfl, rfl⟩
      | succ j =>
        have e : b + (m + 1 - 1 - (j + 1)) = b + (m - 1 - j) := by omega
        rw [e]
        exact h2 j (by omega)
    · refine br_f (nI_ge (by omega) (by omega)) ?_
      rw [ei]
      have vb : vp_in (nI (b + m)) 2000 := vp_in_nI (by omega) (by decide)
      refine ⟨vb, nm_r (e' := upd tv (b + m) (nI c)) (by rw [nI_clamp (by omega)]) ⟨vp_in_nI hr (by decide), vb, nm_r (e' := upd tt (b + m) (nI (B r))) (by rw [nI_clamp (by omega), nI_clamp (by omega), sc_b hA]) ⟨vp_in_nI (by omega) (by decide), nm_r (e' := yn c) (by rw [nI_clamp (by omega)]) (nm_r (nI_1 k) ?_)⟩⟩⟩
      exact h3 post h
end
end
section
section
variable {xT xL xC xG xV xA xF xD xN xS xK xI yW yV yD yR yA yF yO : Int32} {kk kb kp kn ki ka kh kd kf xb vt va ve xo xt xp xl xd xm xz xu xe xc xf kg yb yw yt ys yc yl yn yo ym yf tv tt tg yp yh : Nat → Int32} {nu rs vn yv : Nat → Int64}
variable {D B P I bb : Nat → Nat} {T L N d p t : Nat} {ty st en mb par idx cm lc op lf : Nat → Nat}
abbrev rv_SX : Type := Int32 × Int32 × (Nat → Int32) × (Nat → Int32) × (Nat → Int32) × (Nat → Int32)
abbrev rv_SY : Type := Int32 × Int32 × (Nat → Int32) × (Nat → Int32) × (Nat → Int32)
/-- resolving is under way, and well, with fewer than M steps to come -/
def rv_G (T : Nat) (D B P I : Nat → Nat) (kn ka kh kg : Nat → Int32) (N : Nat) (ty st en par idx cm : Nat → Nat) (M : Nat) (G : gv_T) (sx : rv_SX) (sy : rv_SY) : Prop :=
  G.1 ≤ 150 ∧ ∃ d b H a q s u, sk T D B P I kn ka kh kg N ty st en par idx cm sx.2.2.1 sx.2.2.2.1 sx.2.2.2.2.1 sx.2.2.2.2.2 sy.2.2.1 sy.2.2.2.1 sy.2.2.2.2 d b H a q s u ∧ q ≤ 10 ∧ u < M ∧ sx.1 = nI d ∧ sx.2.1 = nI q ∧ sy.1 = nI q ∧ sy.2.1 = nI b
theorem vi_lt {a x : Nat} (ha : 1 < a) (hx : 1 ≤ x) : a * (x - 1) + 1 < a * x := by
  obtain ⟨y, rfl⟩ : ∃ y, x = y + 1 := ⟨x - 1, by omega⟩
  rw [Nat.add_sub_cancel, Nat.mul_succ]
  omega
theorem vi_lt7 {W x m : Nat} (hW : 7 ≤ W) (hx : 1 ≤ x) (hm : m ≤ 5) : m * (W * x) + 1 < 7 * W * x := by
  rw [Nat.mul_assoc]
  have h1 : m * (W * x) ≤ 5 * (W * x) := Nat.mul_le_mul_right _ hm
  have h2 : 7 * 1 ≤ W * x := Nat.mul_le_mul hW hx
  omega
theorem vi_pos {W x : Nat} (hW : 7 ≤ W) (hx : 1 ≤ x) : 0 < W * x := Nat.mul_pos (by omega) (by omega)
theorem gv_id {G : gv_T} (h : ¬ G.2.1 = 0) (v : Int64) : gv G v = G := by unfold gv; rw [if_neg h]
theorem gv_li {G : gv_T} (h : ¬ G.2.1 = 0) (vals : Nat → Int64) : ∀ m k, gv_l vals m k G = G := by
  intro m
  induction m with
  | zero => exact fun k => rfl
  | succ m ih => intro k; show gv_l vals m (k + 1) (gv G (vals k)) = G; rw [gv_id h]; exact ih (k + 1)
/-- Y's plain values that are no ARRAY, no TEXT, no FIXED: from 49 on nothing happens -/
theorem vi_y49 (hA : sc_A D B P I kk kb kp ki) {w n : Nat} (hw : w < 20) (h4 : ¬ D w = 4) (h6 : ¬ D w = 6) (h7 : ¬ D w = 7) {x3 : Int32} {post : SY → Prop} (k : post (xT, xL, yW, xC, xG, yV, yD, yR, yA, yF, yO, kk, kb, kp, kf, kn, ki, ka, kg, kh, yb, yw, nu, rs, yt, ys, yc, yl, yn, yv, yo, ym, yf, tv, tt, tg, yp, yh)) : (wY_plain_49 post (nI n) (nI w) x3 xT xL yW xC xG yV yD yR yA yF yO kk kb kp kf kn ki ka kg kh yb yw nu rs yt ys yc yl yn yv yo ym yf tv tt tg yp yh) := by
  have h9 := sc_k9 hA w
  have vw : vp_in (nI w) 20 := vp_in_nI hw (by decide)
  refine And.intro vw (br_f (by rw [bg_ck hA hw rfl]; exact fun e => h4 ((ba_e4 (by omega)).mp e)) ⟨vw, br_f (by rw [bg_ck hA hw rfl]; exact fun e => h6 ((ba_e6 (by omega)).mp e)) (Exists.intro 1 (br_t (by decide) ⟨vw, br_f (by rw [bg_ck hA hw rfl]; exact fun e => h7 ((ba_e7 (by omega)).mp e)) k⟩))⟩)
theorem vi_leaf (hA : sc_A D B P I kk kb kp ki) (hS : sc_T T D B P I kn kh kd kg) (hB : by_ok xb yb bb) (hL : L ≤ 100) (hR : tr_ok T L D B P N ty st en mb par idx cm vt va ve yt ys yc yn vn yv)
    {G : gv_T} (hG : gv_ok G) {b H a q s u n w r : Nat} (hK : sk T D B P I kn ka kh kg N ty st en par idx cm xo xt xp xl tv tt tg d b H a q s u) (hq : q ≤ 10) (hn : n < N) (hw : ty n = w) (hr : r < T) (hsu : sc_su D B w r = true) (hr8 : ¬ D r = 8) (hH : en n ≤ H) (ha : a ≤ st n) (hk : D w ≤ 3) : ∃ (G' : gv_T) (sx : rv_SX) (sy : rv_SY), (¬ G.2.1 = 0 → G' = G) ∧ (G.2.1 = 0 → G'.2.1 = 0 → rv_G T D B P I kn ka kh kg N ty st en par idx cm (u + tr_w q * (en n - n)) G' sx sy)
      ∧ (G.2.1 = 0 → ∀ post : SX → Prop, post (xT, xL, xC, nI G'.1, xV, xA, G'.2.1, sx.1, sx.2.1, xS, xK, xI, kk, kb, kp, kn, ki, ka, kh, kd, kf, xb, nu, G'.2.2, vt, vn, va, ve, sx.2.2.1, sx.2.2.2.1, sx.2.2.2.2.1, sx.2.2.2.2.2, xd, xm, xz, xu, xe, xc, xf) → (wpX_simple post (xT, xL, xC, nI G.1, xV, xA, G.2.1, nI d, nI q, xS, xK, xI, kk, kb, kp, kn, ki, ka, kh, kd, kf, xb, nu, G.2.2, vt, vn, va, ve, xo, xt, xp, xl, xd, xm, xz, xu, xe, xc, xf) (nI n) (nI w) (nI r)))
      ∧ (∀ post : SY → Prop, post (xT, xL, yW, xC, nI G'.1, yV, yD, sy.1, yA, G'.2.1, sy.2.1, kk, kb, kp, kf, kn, ki, ka, kg, kh, yb, yw, nu, G'.2.2, yt, ys, yc, yl, yn, yv, yo, ym, yf, sy.2.2.1, sy.2.2.2.1, sy.2.2.2.2, yp, yh) → (wY_turn_90 post (nI n) (nI w) (nI r) xT xL yW xC (nI G.1) yV yD (nI q) yA G.2.1 (nI b) kk kb kp kf kn ki ka kg kh yb yw nu G.2.2 yt ys yc yl yn yv yo ym yf tv tt tg yp yh)) := by
  have hT20 := sc_T20 hS
  have N4 := hR.1.2
  have hVn := hR.2.1 n hn
  rw [hw] at hVn
  obtain ⟨f1, f2, f3, f4, f5, f6, f7, f8⟩ := hVn
  have w20 : w < 20 := by omega
  have r20 : r < 20 := by omega
  have h9 := sc_k9 hA w
  have h9r := sc_k9 hA r
  have vn4 : vp_in (nI n) 400 := vp_in_nI (by omega) (by decide)
  have cn : (nI n).toNatClampNeg = n := nI_clamp (by omega)
  have vw : vp_in (nI w) 20 := vp_in_nI w20 (by decide)
  have vr : vp_in (nI r) 20 := vp_in_nI r20 (by decide)
  have hw7 := tr_w7 hq
  obtain ⟨rA1, rA2, rA3, rA4, rA5⟩ := hR.2.2.2.2.1 n hn
  have rB := hR.2.2.2.2.2.1 n hn
  rw [hw] at rB
  obtain ⟨rB0, rB1, rB2⟩ := rB
  have su := sc_su_t.mp hsu
  obtain ⟨bd1, bd2, bd3, bd4⟩ := sk_bd (sc_p5 hA) _ _ _ _ _ _ _ hK
  have SU : ∀ post : SY → Prop, (vp_in (nI w) 20 ∧ ((kk (nI w).toNatClampNeg = 9 → wpY_fields (fun u => match u with | (xT, xL, yW, xC, xG, yV, yD, yR, yA, yF, yO, kk, kb, kp, kf, kn, ki, ka, kg, kh, yb, yw, nu, rs, yt, ys, yc, yl, yn, yv, yo, ym, yf, tv, tt, tg, yp, yh) => post (xT, xL, yW, xC, xG, yV, yD, yR, yA, yF, yO, kk, kb, kp, kf, kn, ki, ka, kg, kh, yb, yw, nu, rs, yt, ys, yc, yl, yn, yv, yo, ym, yf, tv, tt, tg, yp, yh)) (xT, xL, yW, xC, nI G.1, yV, yD, nI q, yA, G.2.1, nI b, kk, kb, kp, kf, kn, ki, ka, kg, kh, yb, yw, nu, G.2.2, yt, ys, yc, yl, yn, yv, yo, ym, yf, tv, tt, tg, yp, yh) (nI n) (nI w) (nI r)) ∧ (¬ kk (nI w).toNatClampNeg = 9 → (vp_in (nI w) 20 ∧ ((kk (nI w).toNatClampNeg = 5 → (vp_in (nI n) 400 ∧ (vp_in (5 * nI w + (yv (nI n).toNatClampNeg).toInt32) 100 ∧ (∀ x7_93 : Int32, x7_93 = kn (5 * nI w + (yv (nI n).toNatClampNeg).toInt32).toNatClampNeg → (wpY_find (fun r_94 => ((0 ≤ r_94 → (wY_turn_186 post x7_93 xT xL yW xC (nI G.1) yV yD (nI q) yA G.2.1 (nI b) kk kb kp kf kn ki ka kg kh yb yw nu G.2.2 yt ys yc yl yn yv yo ym yf tv tt tg yp yh)) ∧ (¬ 0 ≤ r_94 → (vp_in (nI r) 20 ∧ (∀ x7_176 : Int32, x7_176 = kf (nI r).toNatClampNeg → (wY_turn_186 post x7_176 xT xL yW xC (nI G.1) yV yD (nI q) yA G.2.1 (nI b) kk kb kp kf kn ki ka kg kh yb yw nu G.2.2 yt ys yc yl yn yv yo ym yf tv tt tg yp yh)))))) (xT, xL, yW, xC, nI G.1, yV, yD, nI q, yA, G.2.1, nI b, kk, kb, kp, kf, kn, ki, ka, kg, kh, yb, yw, nu, G.2.2, yt, ys, yc, yl, yn, yv, yo, ym, yf, tv, tt, tg, yp, yh) (nI r) x7_93))))) ∧ (¬ kk (nI w).toNatClampNeg = 5 → wpY_plain (fun u => match u with | (xT, xL, yW, xC, xG, yV, yD, yR, yA, yF, yO, kk, kb, kp, kf, kn, ki, ka, kg, kh, yb, yw, nu, rs, yt, ys, yc, yl, yn, yv, yo, ym, yf, tv, tt, tg, yp, yh) => post (xT, xL, yW, xC, xG, yV, yD, yR, yA, yF, yO, kk, kb, kp, kf, kn, ki, ka, kg, kh, yb, yw, nu, rs, yt, ys, yc, yl, yn, yv, yo, ym, yf, tv, tt, tg, yp, yh)) (xT, xL, yW, xC, nI G.1, yV, yD, nI q, yA, G.2.1, nI b, kk, kb, kp, kf, kn, ki, ka, kg, kh, yb, yw, nu, G.2.2, yt, ys, yc, yl, yn, yv, yo, ym, yf, tv, tt, tg, yp, yh) (nI n) (nI w) (nI r))))))) → (wY_turn_90 post (nI n) (nI w) (nI r) xT xL yW xC (nI G.1) yV yD (nI q) yA G.2.1 (nI b) kk kb kp kf kn ki ka kg kh yb yw nu G.2.2 yt ys yc yl yn yv yo ym yf tv tt tg yp yh) := by
    intro post k
    unfold wY_turn_90
    exact ys_suits hA w20 r20 (fun _ => br_f (by decide) k) (fun e => absurd hsu (by rw [e]; decide))
  have n9 : ¬ kk (nI w).toNatClampNeg = 9 := by rw [bg_ck hA w20 rfl]; exact fun e => by have := (ba_e9 (by omega)).mp e; omega
  have n5 : ¬ kk (nI w).toNatClampNeg = 5 := by rw [bg_ck hA w20 rfl]; exact fun e => by have := (ba_e5 (by omega)).mp e; omega
  have hv : D w = 0 ∨ yv n = vn n := by
    by_cases z : D w = 0
    · exact Or.inl z
    · exact Or.inr (rB1 (by omega))
  refine ⟨gv G (vn n), (nI d, nI q, xo, xt, xp, xl), (nI q, nI b, tv, tt, tg), fun h => gv_id h _, fun _ _ => ⟨(gv_k hG _).1, d, b, H, a, q, s, u, hK, hq, by have := vi_pos hw7 (show 1 ≤ en n - n by omega); omega, rfl, rfl, rfl, rfl⟩, fun _ post k => ?_, fun post k => SU post ⟨vw, br_f n9 ⟨vw, br_f n5 ?_⟩⟩⟩
  · refine And.intro vr (nm_r (e' := nI (D r)) (bg_ck hA r20 rfl) (br_t ((ba_lt4 (by omega)).mpr (by omega)) (And.intro vn4 ?_)))
    rw [cn]
    exact gx_give hG k
  · have K49 : ∀ G2 : gv_T, G2 = gv G (vn n) → (wY_plain_49 (fun u => match u with | (xT, xL, yW, xC, xG, yV, yD, yR, yA, yF, yO, kk, kb, kp, kf, kn, ki, ka, kg, kh, yb, yw, nu, rs, yt, ys, yc, yl, yn, yv, yo, ym, yf, tv, tt, tg, yp, yh) => post (xT, xL, yW, xC, xG, yV, yD, yR, yA, yF, yO, kk, kb, kp, kf, kn, ki, ka, kg, kh, yb, yw, nu, rs, yt, ys, yc, yl, yn, yv, yo, ym, yf, tv, tt, tg, yp, yh)) (nI n) (nI w) (nI r) xT xL yW xC (nI G2.1) yV yD (nI q) yA G2.2.1 (nI b) kk kb kp kf kn ki ka kg kh yb yw nu G2.2.2 yt ys yc yl yn yv yo ym yf tv tt tg yp yh) := by
      intro G2 e
      subst e
      exact vi_y49 hA w20 (by omega) (by omega) (by omega) k
    refine And.intro vw ?_
    rw [bg_ck hA w20 rfl]
    by_cases z : D w = 0
    · rw [z]
      refine br_t rfl (gy_out hG (And.intro vw ?_))
      rw [bg_ck hA w20 z]
      refine yf_in_n (Or.inl (by decide)) (br_t rfl ⟨vw, br_f (by decide) (K49 _ (by rw [rB0 z]))⟩)
    · refine br_f (fun e => z ((ba_e0 (by omega)).mp e)) (And.intro vw ?_)
      rw [bg_ck hA w20 rfl]
      refine yf_in_y ((ba_ge1 (by omega)).mpr (by omega)) ((ba_le4 (by omega)).mpr (by omega)) (br_f (by decide) (And.intro vn4 ?_))
      rw [cn, hv.resolve_left z]
      exact gy_out hG (K49 _ rfl)
theorem vi_text (hA : sc_A D B P I kk kb kp ki) (hS : sc_T T D B P I kn kh kd kg) (hB : by_ok xb yb bb) (hL : L ≤ 100) (hR : tr_ok T L D B P N ty st en mb par idx cm vt va ve yt ys yc yn vn yv)
    {G : gv_T} (hG : gv_ok G) {b H a q s u n w r : Nat} (hK : sk T D B P I kn ka kh kg N ty st en par idx cm xo xt xp xl tv tt tg d b H a q s u) (hq : q ≤ 10) (hn : n < N) (hw : ty n = w) (hr : r < T) (hsu : sc_su D B w r = true) (hr8 : ¬ D r = 8) (hH : en n ≤ H) (ha : a ≤ st n) (hk : D w = 4) : ∃ (G' : gv_T) (sx : rv_SX) (sy : rv_SY), (¬ G.2.1 = 0 → G' = G) ∧ (G.2.1 = 0 → G'.2.1 = 0 → rv_G T D B P I kn ka kh kg N ty st en par idx cm (u + tr_w q * (en n - n)) G' sx sy)
      ∧ (G.2.1 = 0 → ∀ post : SX → Prop, post (xT, xL, xC, nI G'.1, xV, xA, G'.2.1, sx.1, sx.2.1, xS, xK, xI, kk, kb, kp, kn, ki, ka, kh, kd, kf, xb, nu, G'.2.2, vt, vn, va, ve, sx.2.2.1, sx.2.2.2.1, sx.2.2.2.2.1, sx.2.2.2.2.2, xd, xm, xz, xu, xe, xc, xf) → (wpX_simple post (xT, xL, xC, nI G.1, xV, xA, G.2.1, nI d, nI q, xS, xK, xI, kk, kb, kp, kn, ki, ka, kh, kd, kf, xb, nu, G.2.2, vt, vn, va, ve, xo, xt, xp, xl, xd, xm, xz, xu, xe, xc, xf) (nI n) (nI w) (nI r)))
      ∧ (∀ post : SY → Prop, post (xT, xL, yW, xC, nI G'.1, yV, yD, sy.1, yA, G'.2.1, sy.2.1, kk, kb, kp, kf, kn, ki, ka, kg, kh, yb, yw, nu, G'.2.2, yt, ys, yc, yl, yn, yv, yo, ym, yf, sy.2.2.1, sy.2.2.2.1, sy.2.2.2.2, yp, yh) → (wY_turn_90 post (nI n) (nI w) (nI r) xT xL yW xC (nI G.1) yV yD (nI q) yA G.2.1 (nI b) kk kb kp kf kn ki ka kg kh yb yw nu G.2.2 yt ys yc yl yn yv yo ym yf tv tt tg yp yh)) := by
  have hT20 := sc_T20 hS
  have N4 := hR.1.2
  have hVn := hR.2.1 n hn
  rw [hw] at hVn
  obtain ⟨f1, f2, f3, f4, f5, f6, f7, f8⟩ := hVn
  have w20 : w < 20 := by omega
  have r20 : r < 20 := by omega
  have h9 := sc_k9 hA w
  have h9r := sc_k9 hA r
  have vn4 : vp_in (nI n) 400 := vp_in_nI (by omega) (by decide)
  have cn : (nI n).toNatClampNeg = n := nI_clamp (by omega)
  have vw : vp_in (nI w) 20 := vp_in_nI w20 (by decide)
  have vr : vp_in (nI r) 20 := vp_in_nI r20 (by decide)
  have hw7 := tr_w7 hq
  obtain ⟨rA1, rA2, rA3, rA4, rA5⟩ := hR.2.2.2.2.1 n hn
  have rB := hR.2.2.2.2.2.1 n hn
  rw [hw] at rB
  obtain ⟨rB0, rB1, rB2⟩ := rB
  have su := sc_su_t.mp hsu
  obtain ⟨bd1, bd2, bd3, bd4⟩ := sk_bd (sc_p5 hA) _ _ _ _ _ _ _ hK
  have SU : ∀ post : SY → Prop, (vp_in (nI w) 20 ∧ ((kk (nI w).toNatClampNeg = 9 → wpY_fields (fun u => match u with | (xT, xL, yW, xC, xG, yV, yD, yR, yA, yF, yO, kk, kb, kp, kf, kn, ki, ka, kg, kh, yb, yw, nu, rs, yt, ys, yc, yl, yn, yv, yo, ym, yf, tv, tt, tg, yp, yh) => post (xT, xL, yW, xC, xG, yV, yD, yR, yA, yF, yO, kk, kb, kp, kf, kn, ki, ka, kg, kh, yb, yw, nu, rs, yt, ys, yc, yl, yn, yv, yo, ym, yf, tv, tt, tg, yp, yh)) (xT, xL, yW, xC, nI G.1, yV, yD, nI q, yA, G.2.1, nI b, kk, kb, kp, kf, kn, ki, ka, kg, kh, yb, yw, nu, G.2.2, yt, ys, yc, yl, yn, yv, yo, ym, yf, tv, tt, tg, yp, yh) (nI n) (nI w) (nI r)) ∧ (¬ kk (nI w).toNatClampNeg = 9 → (vp_in (nI w) 20 ∧ ((kk (nI w).toNatClampNeg = 5 → (vp_in (nI n) 400 ∧ (vp_in (5 * nI w + (yv (nI n).toNatClampNeg).toInt32) 100 ∧ (∀ x7_93 : Int32, x7_93 = kn (5 * nI w + (yv (nI n).toNatClampNeg).toInt32).toNatClampNeg → (wpY_find (fun r_94 => ((0 ≤ r_94 → (wY_turn_186 post x7_93 xT xL yW xC (nI G.1) yV yD (nI q) yA G.2.1 (nI b) kk kb kp kf kn ki ka kg kh yb yw nu G.2.2 yt ys yc yl yn yv yo ym yf tv tt tg yp yh)) ∧ (¬ 0 ≤ r_94 → (vp_in (nI r) 20 ∧ (∀ x7_176 : Int32, x7_176 = kf (nI r).toNatClampNeg → (wY_turn_186 post x7_176 xT xL yW xC (nI G.1) yV yD (nI q) yA G.2.1 (nI b) kk kb kp kf kn ki ka kg kh yb yw nu G.2.2 yt ys yc yl yn yv yo ym yf tv tt tg yp yh)))))) (xT, xL, yW, xC, nI G.1, yV, yD, nI q, yA, G.2.1, nI b, kk, kb, kp, kf, kn, ki, ka, kg, kh, yb, yw, nu, G.2.2, yt, ys, yc, yl, yn, yv, yo, ym, yf, tv, tt, tg, yp, yh) (nI r) x7_93))))) ∧ (¬ kk (nI w).toNatClampNeg = 5 → wpY_plain (fun u => match u with | (xT, xL, yW, xC, xG, yV, yD, yR, yA, yF, yO, kk, kb, kp, kf, kn, ki, ka, kg, kh, yb, yw, nu, rs, yt, ys, yc, yl, yn, yv, yo, ym, yf, tv, tt, tg, yp, yh) => post (xT, xL, yW, xC, xG, yV, yD, yR, yA, yF, yO, kk, kb, kp, kf, kn, ki, ka, kg, kh, yb, yw, nu, rs, yt, ys, yc, yl, yn, yv, yo, ym, yf, tv, tt, tg, yp, yh)) (xT, xL, yW, xC, nI G.1, yV, yD, nI q, yA, G.2.1, nI b, kk, kb, kp, kf, kn, ki, ka, kg, kh, yb, yw, nu, G.2.2, yt, ys, yc, yl, yn, yv, yo, ym, yf, tv, tt, tg, yp, yh) (nI n) (nI w) (nI r))))))) → (wY_turn_90 post (nI n) (nI w) (nI r) xT xL yW xC (nI G.1) yV yD (nI q) yA G.2.1 (nI b) kk kb kp kf kn ki ka kg kh yb yw nu G.2.2 yt ys yc yl yn yv yo ym yf tv tt tg yp yh) := by
    intro post k
    unfold wY_turn_90
    exact ys_suits hA w20 r20 (fun _ => br_f (by decide) k) (fun e => absurd hsu (by rw [e]; decide))
  have er : D r = 4 := by omega
  obtain ⟨m1, m2⟩ := f5 hk
  obtain ⟨bx, by'⟩ := rB2 (by omega)
  have hG1 := gv_k hG (lN (mb n))
  have hG2 := gv_lk (gv_b bb (st n)) (mb n) 0 _ hG1
  refine ⟨gv_l (gv_b bb (st n)) (mb n) 0 (gv G (lN (mb n))), (nI d, nI q, xo, xt, xp, xl), (nI q, nI b, tv, tt, tg), fun h => by rw [gv_id h, gv_li h], fun _ _ => ⟨hG2.1, d, b, H, a, q, s, u, hK, hq, by have := vi_pos hw7 (show 1 ≤ en n - n by omega); omega, rfl, rfl, rfl, rfl⟩, fun _ post k => ?_, fun post k => SU post ⟨vw, br_f (by rw [bg_ck hA w20 hk]; decide) ⟨vw, br_f (by rw [bg_ck hA w20 hk]; decide) ?_⟩⟩⟩
  · refine And.intro vr (nm_r (e' := nI 4) (bg_ck hA r20 er) (br_f (by decide) (br_f (by decide) (br_t rfl ⟨vn4, ?_⟩))))
    rw [cn, bx]
    refine gx_give hG ⟨vn4, vn4, ?_⟩
    rw [bx, lN_i, rA2]
    exact gx_copy hB (by omega) hG1 k
  · refine And.intro vw (br_f (by rw [bg_ck hA w20 hk]; decide) (And.intro vw ?_))
    rw [bg_ck hA w20 hk]
    refine yf_in_y (by decide) (by decide) (br_f (by decide) (And.intro vn4 ?_))
    rw [cn, by']
    refine gy_out hG (And.intro vw (br_t (by rw [bg_ck hA w20 hk]; rfl) ⟨vn4, nm_r (e' := nI (mb n)) (by rw [cn, by', lN_i]) (Exists.intro (mb n + 1) (gy_95 hA hB (by omega) w20 (by omega) (by omega) rA5 (mb n) 0 _ _ (by omega) (by omega) hG1 k))⟩))
theorem vi_fixed (hA : sc_A D B P I kk kb kp ki) (hS : sc_T T D B P I kn kh kd kg) (hB : by_ok xb yb bb) (hL : L ≤ 100) (hR : tr_ok T L D B P N ty st en mb par idx cm vt va ve yt ys yc yn vn yv)
    {G : gv_T} (hG : gv_ok G) {b H a q s u n w r : Nat} (hK : sk T D B P I kn ka kh kg N ty st en par idx cm xo xt xp xl tv tt tg d b H a q s u) (hq : q ≤ 10) (hn : n < N) (hw : ty n = w) (hr : r < T) (hsu : sc_su D B w r = true) (hr8 : ¬ D r = 8) (hH : en n ≤ H) (ha : a ≤ st n) (hk : D w = 6) : ∃ (G' : gv_T) (sx : rv_SX) (sy : rv_SY), (¬ G.2.1 = 0 → G' = G) ∧ (G.2.1 = 0 → G'.2.1 = 0 → rv_G T D B P I kn ka kh kg N ty st en par idx cm (u + tr_w q * (en n - n)) G' sx sy)
      ∧ (G.2.1 = 0 → ∀ post : SX → Prop, post (xT, xL, xC, nI G'.1, xV, xA, G'.2.1, sx.1, sx.2.1, xS, xK, xI, kk, kb, kp, kn, ki, ka, kh, kd, kf, xb, nu, G'.2.2, vt, vn, va, ve, sx.2.2.1, sx.2.2.2.1, sx.2.2.2.2.1, sx.2.2.2.2.2, xd, xm, xz, xu, xe, xc, xf) → (wpX_simple post (xT, xL, xC, nI G.1, xV, xA, G.2.1, nI d, nI q, xS, xK, xI, kk, kb, kp, kn, ki, ka, kh, kd, kf, xb, nu, G.2.2, vt, vn, va, ve, xo, xt, xp, xl, xd, xm, xz, xu, xe, xc, xf) (nI n) (nI w) (nI r)))
      ∧ (∀ post : SY → Prop, post (xT, xL, yW, xC, nI G'.1, yV, yD, sy.1, yA, G'.2.1, sy.2.1, kk, kb, kp, kf, kn, ki, ka, kg, kh, yb, yw, nu, G'.2.2, yt, ys, yc, yl, yn, yv, yo, ym, yf, sy.2.2.1, sy.2.2.2.1, sy.2.2.2.2, yp, yh) → (wY_turn_90 post (nI n) (nI w) (nI r) xT xL yW xC (nI G.1) yV yD (nI q) yA G.2.1 (nI b) kk kb kp kf kn ki ka kg kh yb yw nu G.2.2 yt ys yc yl yn yv yo ym yf tv tt tg yp yh)) := by
  have hT20 := sc_T20 hS
  have N4 := hR.1.2
  have hVn := hR.2.1 n hn
  rw [hw] at hVn
  obtain ⟨f1, f2, f3, f4, f5, f6, f7, f8⟩ := hVn
  have w20 : w < 20 := by omega
  have r20 : r < 20 := by omega
  have h9 := sc_k9 hA w
  have h9r := sc_k9 hA r
  have vn4 : vp_in (nI n) 400 := vp_in_nI (by omega) (by decide)
  have cn : (nI n).toNatClampNeg = n := nI_clamp (by omega)
  have vw : vp_in (nI w) 20 := vp_in_nI w20 (by decide)
  have vr : vp_in (nI r) 20 := vp_in_nI r20 (by decide)
  have hw7 := tr_w7 hq
  obtain ⟨rA1, rA2, rA3, rA4, rA5⟩ := hR.2.2.2.2.1 n hn
  have rB := hR.2.2.2.2.2.1 n hn
  rw [hw] at rB
  obtain ⟨rB0, rB1, rB2⟩ := rB
  have su := sc_su_t.mp hsu
  obtain ⟨bd1, bd2, bd3, bd4⟩ := sk_bd (sc_p5 hA) _ _ _ _ _ _ _ hK
  have SU : ∀ post : SY → Prop, (vp_in (nI w) 20 ∧ ((kk (nI w).toNatClampNeg = 9 → wpY_fields (fun u => match u with | (xT, xL, yW, xC, xG, yV, yD, yR, yA, yF, yO, kk, kb, kp, kf, kn, ki, ka, kg, kh, yb, yw, nu, rs, yt, ys, yc, yl, yn, yv, yo, ym, yf, tv, tt, tg, yp, yh) => post (xT, xL, yW, xC, xG, yV, yD, yR, yA, yF, yO, kk, kb, kp, kf, kn, ki, ka, kg, kh, yb, yw, nu, rs, yt, ys, yc, yl, yn, yv, yo, ym, yf, tv, tt, tg, yp, yh)) (xT, xL, yW, xC, nI G.1, yV, yD, nI q, yA, G.2.1, nI b, kk, kb, kp, kf, kn, ki, ka, kg, kh, yb, yw, nu, G.2.2, yt, ys, yc, yl, yn, yv, yo, ym, yf, tv, tt, tg, yp, yh) (nI n) (nI w) (nI r)) ∧ (¬ kk (nI w).toNatClampNeg = 9 → (vp_in (nI w) 20 ∧ ((kk (nI w).toNatClampNeg = 5 → (vp_in (nI n) 400 ∧ (vp_in (5 * nI w + (yv (nI n).toNatClampNeg).toInt32) 100 ∧ (∀ x7_93 : Int32, x7_93 = kn (5 * nI w + (yv (nI n).toNatClampNeg).toInt32).toNatClampNeg → (wpY_find (fun r_94 => ((0 ≤ r_94 → (wY_turn_186 post x7_93 xT xL yW xC (nI G.1) yV yD (nI q) yA G.2.1 (nI b) kk kb kp kf kn ki ka kg kh yb yw nu G.2.2 yt ys yc yl yn yv yo ym yf tv tt tg yp yh)) ∧ (¬ 0 ≤ r_94 → (vp_in (nI r) 20 ∧ (∀ x7_176 : Int32, x7_176 = kf (nI r).toNatClampNeg → (wY_turn_186 post x7_176 xT xL yW xC (nI G.1) yV yD (nI q) yA G.2.1 (nI b) kk kb kp kf kn ki ka kg kh yb yw nu G.2.2 yt ys yc yl yn yv yo ym yf tv tt tg yp yh)))))) (xT, xL, yW, xC, nI G.1, yV, yD, nI q, yA, G.2.1, nI b, kk, kb, kp, kf, kn, ki, ka, kg, kh, yb, yw, nu, G.2.2, yt, ys, yc, yl, yn, yv, yo, ym, yf, tv, tt, tg, yp, yh) (nI r) x7_93))))) ∧ (¬ kk (nI w).toNatClampNeg = 5 → wpY_plain (fun u => match u with | (xT, xL, yW, xC, xG, yV, yD, yR, yA, yF, yO, kk, kb, kp, kf, kn, ki, ka, kg, kh, yb, yw, nu, rs, yt, ys, yc, yl, yn, yv, yo, ym, yf, tv, tt, tg, yp, yh) => post (xT, xL, yW, xC, xG, yV, yD, yR, yA, yF, yO, kk, kb, kp, kf, kn, ki, ka, kg, kh, yb, yw, nu, rs, yt, ys, yc, yl, yn, yv, yo, ym, yf, tv, tt, tg, yp, yh)) (xT, xL, yW, xC, nI G.1, yV, yD, nI q, yA, G.2.1, nI b, kk, kb, kp, kf, kn, ki, ka, kg, kh, yb, yw, nu, G.2.2, yt, ys, yc, yl, yn, yv, yo, ym, yf, tv, tt, tg, yp, yh) (nI n) (nI w) (nI r))))))) → (wY_turn_90 post (nI n) (nI w) (nI r) xT xL yW xC (nI G.1) yV yD (nI q) yA G.2.1 (nI b) kk kb kp kf kn ki ka kg kh yb yw nu G.2.2 yt ys yc yl yn yv yo ym yf tv tt tg yp yh) := by
    intro post k
    unfold wY_turn_90
    exact ys_suits hA w20 r20 (fun _ => br_f (by decide) k) (fun e => absurd hsu (by rw [e]; decide))
  have er : D r = 6 := by omega
  have eB : B w = B r := by
    rcases su with ⟨_, z⟩ | z
    · exact z hk
    · omega
  have b8 := sc_b8 hS hk
  have m1 := f8 hk
  have hG2 := gv_lk (gv_b bb (st n)) (B w) 0 _ hG
  have k6 : kk (nI w).toNatClampNeg = nI 6 := bg_ck hA w20 hk
  refine ⟨gv_l (gv_b bb (st n)) (B w) 0 G, (nI d, nI q, xo, xt, xp, xl), (nI q, nI b, tv, tt, tg), fun h => gv_li h _ _ _, fun _ _ => ⟨hG2.1, d, b, H, a, q, s, u, hK, hq, by have := vi_pos hw7 (show 1 ≤ en n - n by omega); omega, rfl, rfl, rfl, rfl⟩, fun _ post k => ?_, fun post k => SU post ⟨vw, br_f (by rw [k6]; decide) ⟨vw, br_f (by rw [k6]; decide) ?_⟩⟩⟩
  · refine And.intro vr (nm_r (e' := nI 6) (bg_ck hA r20 er) (br_f (by decide) (br_f (by decide) (br_f (by decide) (br_f (by decide) (br_t rfl ⟨vn4, vr, ?_⟩))))))
    rw [cn, rA2, nI_clamp (by omega), sc_b hA, ← eB]
    exact gx_copy hB (by omega) hG k
  · refine And.intro vw (br_f (by rw [k6]; decide) (And.intro vw ?_))
    rw [k6]
    refine yf_in_n (Or.inr (by decide)) (br_t rfl ⟨vw, br_f (by decide) (And.intro vw (br_f (by rw [k6]; decide) ⟨vw, br_t (by rw [k6]; rfl) ⟨vw, nm_r (e' := nI (B w)) (by rw [nI_clamp (by omega), sc_b hA]) (Exists.intro (B w + 1) (gy_95 hA hB (by omega) w20 (by omega) (by omega) rA5 (B w) 0 _ _ (by omega) (by omega) hG k))⟩⟩))⟩)
/-- an ENUM: the name, or the one to fall back on, or a MISMATCH -/
theorem vi_enum (hA : sc_A D B P I kk kb kp ki) (hS : sc_T T D B P I kn kh kd kg) (hB : by_ok xb yb bb) (hL : L ≤ 100) (hR : tr_ok T L D B P N ty st en mb par idx cm vt va ve yt ys yc yn vn yv)
    {G : gv_T} (hG : gv_ok G) {b H a q s u n w r : Nat} (hK : sk T D B P I kn ka kh kg N ty st en par idx cm xo xt xp xl tv tt tg d b H a q s u) (hq : q ≤ 10) (hn : n < N) (hw : ty n = w) (hr : r < T) (hsu : sc_su D B w r = true) (hr8 : ¬ D r = 8) (hH : en n ≤ H) (ha : a ≤ st n) (hk : D w = 5) : ∃ (G' : gv_T) (sx : rv_SX) (sy : rv_SY), (¬ G.2.1 = 0 → G' = G) ∧ (G.2.1 = 0 → G'.2.1 = 0 → rv_G T D B P I kn ka kh kg N ty st en par idx cm (u + tr_w q * (en n - n)) G' sx sy)
      ∧ (G.2.1 = 0 → ∀ post : SX → Prop, post (xT, xL, xC, nI G'.1, xV, xA, G'.2.1, sx.1, sx.2.1, xS, xK, xI, kk, kb, kp, kn, ki, ka, kh, kd, kf, xb, nu, G'.2.2, vt, vn, va, ve, sx.2.2.1, sx.2.2.2.1, sx.2.2.2.2.1, sx.2.2.2.2.2, xd, xm, xz, xu, xe, xc, xf) → (wpX_simple post (xT, xL, xC, nI G.1, xV, xA, G.2.1, nI d, nI q, xS, xK, xI, kk, kb, kp, kn, ki, ka, kh, kd, kf, xb, nu, G.2.2, vt, vn, va, ve, xo, xt, xp, xl, xd, xm, xz, xu, xe, xc, xf) (nI n) (nI w) (nI r)))
      ∧ (∀ post : SY → Prop, post (xT, xL, yW, xC, nI G'.1, yV, yD, sy.1, yA, G'.2.1, sy.2.1, kk, kb, kp, kf, kn, ki, ka, kg, kh, yb, yw, nu, G'.2.2, yt, ys, yc, yl, yn, yv, yo, ym, yf, sy.2.2.1, sy.2.2.2.1, sy.2.2.2.2, yp, yh) → (wY_turn_90 post (nI n) (nI w) (nI r) xT xL yW xC (nI G.1) yV yD (nI q) yA G.2.1 (nI b) kk kb kp kf kn ki ka kg kh yb yw nu G.2.2 yt ys yc yl yn yv yo ym yf tv tt tg yp yh)) := by
  have hT20 := sc_T20 hS
  have N4 := hR.1.2
  have hVn := hR.2.1 n hn
  rw [hw] at hVn
  obtain ⟨f1, f2, f3, f4, f5, f6, f7, f8⟩ := hVn
  have w20 : w < 20 := by omega
  have r20 : r < 20 := by omega
  have h9 := sc_k9 hA w
  have h9r := sc_k9 hA r
  have vn4 : vp_in (nI n) 400 := vp_in_nI (by omega) (by decide)
  have cn : (nI n).toNatClampNeg = n := nI_clamp (by omega)
  have vw : vp_in (nI w) 20 := vp_in_nI w20 (by decide)
  have vr : vp_in (nI r) 20 := vp_in_nI r20 (by decide)
  have hw7 := tr_w7 hq
  obtain ⟨rA1, rA2, rA3, rA4, rA5⟩ := hR.2.2.2.2.1 n hn
  have rB := hR.2.2.2.2.2.1 n hn
  rw [hw] at rB
  obtain ⟨rB0, rB1, rB2⟩ := rB
  have su := sc_su_t.mp hsu
  obtain ⟨bd1, bd2, bd3, bd4⟩ := sk_bd (sc_p5 hA) _ _ _ _ _ _ _ hK
  have SU : ∀ post : SY → Prop, (vp_in (nI w) 20 ∧ ((kk (nI w).toNatClampNeg = 9 → wpY_fields (fun u => match u with | (xT, xL, yW, xC, xG, yV, yD, yR, yA, yF, yO, kk, kb, kp, kf, kn, ki, ka, kg, kh, yb, yw, nu, rs, yt, ys, yc, yl, yn, yv, yo, ym, yf, tv, tt, tg, yp, yh) => post (xT, xL, yW, xC, xG, yV, yD, yR, yA, yF, yO, kk, kb, kp, kf, kn, ki, ka, kg, kh, yb, yw, nu, rs, yt, ys, yc, yl, yn, yv, yo, ym, yf, tv, tt, tg, yp, yh)) (xT, xL, yW, xC, nI G.1, yV, yD, nI q, yA, G.2.1, nI b, kk, kb, kp, kf, kn, ki, ka, kg, kh, yb, yw, nu, G.2.2, yt, ys, yc, yl, yn, yv, yo, ym, yf, tv, tt, tg, yp, yh) (nI n) (nI w) (nI r)) ∧ (¬ kk (nI w).toNatClampNeg = 9 → (vp_in (nI w) 20 ∧ ((kk (nI w).toNatClampNeg = 5 → (vp_in (nI n) 400 ∧ (vp_in (5 * nI w + (yv (nI n).toNatClampNeg).toInt32) 100 ∧ (∀ x7_93 : Int32, x7_93 = kn (5 * nI w + (yv (nI n).toNatClampNeg).toInt32).toNatClampNeg → (wpY_find (fun r_94 => ((0 ≤ r_94 → (wY_turn_186 post x7_93 xT xL yW xC (nI G.1) yV yD (nI q) yA G.2.1 (nI b) kk kb kp kf kn ki ka kg kh yb yw nu G.2.2 yt ys yc yl yn yv yo ym yf tv tt tg yp yh)) ∧ (¬ 0 ≤ r_94 → (vp_in (nI r) 20 ∧ (∀ x7_176 : Int32, x7_176 = kf (nI r).toNatClampNeg → (wY_turn_186 post x7_176 xT xL yW xC (nI G.1) yV yD (nI q) yA G.2.1 (nI b) kk kb kp kf kn ki ka kg kh yb yw nu G.2.2 yt ys yc yl yn yv yo ym yf tv tt tg yp yh)))))) (xT, xL, yW, xC, nI G.1, yV, yD, nI q, yA, G.2.1, nI b, kk, kb, kp, kf, kn, ki, ka, kg, kh, yb, yw, nu, G.2.2, yt, ys, yc, yl, yn, yv, yo, ym, yf, tv, tt, tg, yp, yh) (nI r) x7_93))))) ∧ (¬ kk (nI w).toNatClampNeg = 5 → wpY_plain (fun u => match u with | (xT, xL, yW, xC, xG, yV, yD, yR, yA, yF, yO, kk, kb, kp, kf, kn, ki, ka, kg, kh, yb, yw, nu, rs, yt, ys, yc, yl, yn, yv, yo, ym, yf, tv, tt, tg, yp, yh) => post (xT, xL, yW, xC, xG, yV, yD, yR, yA, yF, yO, kk, kb, kp, kf, kn, ki, ka, kg, kh, yb, yw, nu, rs, yt, ys, yc, yl, yn, yv, yo, ym, yf, tv, tt, tg, yp, yh)) (xT, xL, yW, xC, nI G.1, yV, yD, nI q, yA, G.2.1, nI b, kk, kb, kp, kf, kn, ki, ka, kg, kh, yb, yw, nu, G.2.2, yt, ys, yc, yl, yn, yv, yo, ym, yf, tv, tt, tg, yp, yh) (nI n) (nI w) (nI r))))))) → (wY_turn_90 post (nI n) (nI w) (nI r) xT xL yW xC (nI G.1) yV yD (nI q) yA G.2.1 (nI b) kk kb kp kf kn ki ka kg kh yb yw nu G.2.2 yt ys yc yl yn yv yo ym yf tv tt tg yp yh) := by
    intro post k
    unfold wY_turn_90
    exact ys_suits hA w20 r20 (fun _ => br_f (by decide) k) (fun e => absurd hsu (by rw [e]; decide))
  have er : D r = 5 := by omega
  have mP := f6 (Or.inl hk)
  have hP := sc_p5 hA w
  obtain ⟨bx, by'⟩ := rB2 (by omega)
  have k5 : kk (nI w).toNatClampNeg = nI 5 := bg_ck hA w20 hk
  have v5 : vp_in (nI (5 * w + mb n)) 100 := vp_in_nI (by omega) (by decide)
  have c5 : (nI (5 * w + mb n)).toNatClampNeg = 5 * w + mb n := nI_clamp (by omega)
  have cr : (nI r).toNatClampNeg = r := nI_clamp (by omega)
  have nm0 := (sc_n hS (5 * w + mb n)).1
  have PX : ∀ post : SX → Prop, wpX_symbolFor (fun u => match u with | (xT, xL, xC, xG, xV, xA, xF, xD, xN, xS, xK, xI, kk, kb, kp, kn, ki, ka, kh, kd, kf, xb, nu, rs, vt, vn, va, ve, xo, xt, xp, xl, xd, xm, xz, xu, xe, xc, xf) => post (xT, xL, xC, xG, xV, xA, xF, xD, xN, xS, xK, xI, kk, kb, kp, kn, ki, ka, kh, kd, kf, xb, nu, rs, vt, vn, va, ve, xo, xt, xp, xl, xd, xm, xz, xu, xe, xc, xf)) (xT, xL, xC, nI G.1, xV, xA, G.2.1, nI d, nI q, xS, xK, xI, kk, kb, kp, kn, ki, ka, kh, kd, kf, xb, nu, G.2.2, vt, vn, va, ve, xo, xt, xp, xl, xd, xm, xz, xu, xe, xc, xf) (kn (5 * w + mb n)) (nI r) → (wpX_simple post (xT, xL, xC, nI G.1, xV, xA, G.2.1, nI d, nI q, xS, xK, xI, kk, kb, kp, kn, ki, ka, kh, kd, kf, xb, nu, G.2.2, vt, vn, va, ve, xo, xt, xp, xl, xd, xm, xz, xu, xe, xc, xf) (nI n) (nI w) (nI r)) := by
    intro post k
    refine And.intro vr (nm_r (e' := nI 5) (bg_ck hA r20 er) (br_f (by decide) (br_f (by decide) (br_f (by decide) (br_t rfl ⟨vn4, ?_⟩)))))
    rw [cn, bx, lN_i, ba_5, nI_add, c5]
    exact ⟨v5, k⟩
  have PY : ∀ post : SY → Prop, wpY_find (fun r_94 => ((0 ≤ r_94 → (wY_turn_186 post (kn (5 * w + mb n)) xT xL yW xC (nI G.1) yV yD (nI q) yA G.2.1 (nI b) kk kb kp kf kn ki ka kg kh yb yw nu G.2.2 yt ys yc yl yn yv yo ym yf tv tt tg yp yh)) ∧ (¬ 0 ≤ r_94 → (vp_in (nI r) 20 ∧ (∀ x7_176 : Int32, x7_176 = kf (nI r).toNatClampNeg → (wY_turn_186 post x7_176 xT xL yW xC (nI G.1) yV yD (nI q) yA G.2.1 (nI b) kk kb kp kf kn ki ka kg kh yb yw nu G.2.2 yt ys yc yl yn yv yo ym yf tv tt tg yp yh)))))) (xT, xL, yW, xC, nI G.1, yV, yD, nI q, yA, G.2.1, nI b, kk, kb, kp, kf, kn, ki, ka, kg, kh, yb, yw, nu, G.2.2, yt, ys, yc, yl, yn, yv, yo, ym, yf, tv, tt, tg, yp, yh) (nI r) (kn (5 * w + mb n)) → (wY_turn_90 post (nI n) (nI w) (nI r) xT xL yW xC (nI G.1) yV yD (nI q) yA G.2.1 (nI b) kk kb kp kf kn ki ka kg kh yb yw nu G.2.2 yt ys yc yl yn yv yo ym yf tv tt tg yp yh) := by
    intro post k
    refine SU post ⟨vw, br_f (by rw [k5]; decide) ⟨vw, br_t (by rw [k5]; rfl) ⟨vn4, ?_⟩⟩⟩
    rw [cn, by', lN_i, ba_5, nI_add, c5]
    exact ⟨v5, nm_e k⟩
  have keep : ∀ x : Int64, G.2.1 = 0 → (gv G x).2.1 = 0 → rv_G T D B P I kn ka kh kg N ty st en par idx cm (u + tr_w q * (en n - n)) (gv G x) (nI d, nI q, xo, xt, xp, xl) (nI q, nI b, tv, tt, tg) := fun x _ _ => ⟨(gv_k hG _).1, d, b, H, a, q, s, u, hK, hq, by have := vi_pos hw7 (show 1 ≤ en n - n by omega); omega, rfl, rfl, rfl, rfl⟩
  rcases sc_find_r (P := P) (kn := kn) (t := r) (kn (5 * w + mb n)) (sc_p5 hA r) with ⟨hf, _⟩ | ⟨f, hf1, hf, _⟩
  · by_cases z : kf r < 0
    · by_cases g0 : G.2.1 = 0
      · refine ⟨(G.1, -6, G.2.2), (nI d, nI q, xo, xt, xp, xl), (nI q, nI b, tv, tt, tg), fun h => absurd g0 h, fun _ h => absurd h (by show ¬ (-6 : Int32) = 0; decide), fun _ post k => PX post ?_, fun post k => PY post (yn_find hA r20 ?_)⟩
        · unfold wpX_symbolFor
          refine xn_named hA r20 ?_
          rw [hf]
          refine br_t ba_m1lt (br_t rfl ⟨vr, br_t (by rw [cr]; exact z) ?_⟩)
          rw [g0]
          exact xf_fail k
        · rw [hf]
          refine br_f ba_m1le ⟨vr, nm_r (e' := kf r) (by rw [cr]) (br_f (fun e => Int32.not_lt.mpr e z) ?_)⟩
          rw [g0]
          refine br_t rfl ?_
          unfold wY_turn_204
          exact yf_out_n (by decide) k
      · refine ⟨G, (nI d, nI q, xo, xt, xp, xl), (nI q, nI b, tv, tt, tg), fun _ => rfl, fun h => absurd h g0, fun h => absurd h g0, fun post k => PY post (yn_find hA r20 ?_)⟩
        rw [hf]
        refine br_f ba_m1le ⟨vr, nm_r (e' := kf r) (by rw [cr]) (br_f (fun e => Int32.not_lt.mpr e z) (br_f g0 ?_))⟩
        unfold wY_turn_204
        exact yf_out_n g0 k
    · refine ⟨gv G (kf r).toInt64, (nI d, nI q, xo, xt, xp, xl), (nI q, nI b, tv, tt, tg), fun h => gv_id h _, keep _, fun _ post k => PX post ?_, fun post k => PY post (yn_find hA r20 ?_)⟩
      · unfold wpX_symbolFor
        refine xn_named hA r20 ?_
        rw [hf]
        refine br_t ba_m1lt (br_t rfl ⟨vr, br_f (by rw [cr]; exact z) ⟨vr, ?_⟩⟩)
        rw [cr]
        exact gx_give hG k
      · rw [hf]
        refine br_f ba_m1le ⟨vr, nm_r (e' := kf r) (by rw [cr]) (br_t (Int32.not_lt.mp z) ?_)⟩
        unfold wY_turn_204
        exact gy_out hG k
  · have hP5 := sc_p5 hA r
    refine ⟨gv G (kn (5 * w + mb n)).toInt64, (nI d, nI q, xo, xt, xp, xl), (nI q, nI b, tv, tt, tg), fun h => gv_id h _, keep _, fun _ post k => PX post ?_, fun post k => PY post (yn_find hA r20 ?_)⟩
    · unfold wpX_symbolFor
      refine xn_named hA r20 ?_
      rw [hf]
      exact br_f (nI_pos (by omega)) (br_f (by decide) (gx_give hG k))
    · rw [hf]
      refine br_t (nI_pos' (by omega)) (br_t nm0 ?_)
      unfold wY_turn_204
      exact gy_out hG k
theorem vi_array (hA : sc_A D B P I kk kb kp ki) (hS : sc_T T D B P I kn kh kd kg) (hB : by_ok xb yb bb) (hL : L ≤ 100) (hR : tr_ok T L D B P N ty st en mb par idx cm vt va ve yt ys yc yn vn yv)
    {G : gv_T} (hG : gv_ok G) {b H a q s u n w r : Nat} (hK : sk T D B P I kn ka kh kg N ty st en par idx cm xo xt xp xl tv tt tg d b H a q s u) (hq : q ≤ 10) (hn : n < N) (hw : ty n = w) (hr : r < T) (hsu : sc_su D B w r = true) (hr8 : ¬ D r = 8) (hH : en n ≤ H) (ha : a ≤ st n) (hk : D w = 7) : ∃ (G' : gv_T) (sx : rv_SX) (sy : rv_SY), (¬ G.2.1 = 0 → G' = G) ∧ (G.2.1 = 0 → G'.2.1 = 0 → rv_G T D B P I kn ka kh kg N ty st en par idx cm (u + tr_w q * (en n - n)) G' sx sy)
      ∧ (G.2.1 = 0 → ∀ post : SX → Prop, post (xT, xL, xC, nI G'.1, xV, xA, G'.2.1, sx.1, sx.2.1, xS, xK, xI, kk, kb, kp, kn, ki, ka, kh, kd, kf, xb, nu, G'.2.2, vt, vn, va, ve, sx.2.2.1, sx.2.2.2.1, sx.2.2.2.2.1, sx.2.2.2.2.2, xd, xm, xz, xu, xe, xc, xf) → (wpX_simple post (xT, xL, xC, nI G.1, xV, xA, G.2.1, nI d, nI q, xS, xK, xI, kk, kb, kp, kn, ki, ka, kh, kd, kf, xb, nu, G.2.2, vt, vn, va, ve, xo, xt, xp, xl, xd, xm, xz, xu, xe, xc, xf) (nI n) (nI w) (nI r)))
      ∧ (∀ post : SY → Prop, post (xT, xL, yW, xC, nI G'.1, yV, yD, sy.1, yA, G'.2.1, sy.2.1, kk, kb, kp, kf, kn, ki, ka, kg, kh, yb, yw, nu, G'.2.2, yt, ys, yc, yl, yn, yv, yo, ym, yf, sy.2.2.1, sy.2.2.2.1, sy.2.2.2.2, yp, yh) → (wY_turn_90 post (nI n) (nI w) (nI r) xT xL yW xC (nI G.1) yV yD (nI q) yA G.2.1 (nI b) kk kb kp kf kn ki ka kg kh yb yw nu G.2.2 yt ys yc yl yn yv yo ym yf tv tt tg yp yh)) := by
  have hT20 := sc_T20 hS
  have N4 := hR.1.2
  have hVn := hR.2.1 n hn
  rw [hw] at hVn
  obtain ⟨f1, f2, f3, f4, f5, f6, f7, f8⟩ := hVn
  have w20 : w < 20 := by omega
  have r20 : r < 20 := by omega
  have h9 := sc_k9 hA w
  have h9r := sc_k9 hA r
  have vn4 : vp_in (nI n) 400 := vp_in_nI (by omega) (by decide)
  have cn : (nI n).toNatClampNeg = n := nI_clamp (by omega)
  have vw : vp_in (nI w) 20 := vp_in_nI w20 (by decide)
  have vr : vp_in (nI r) 20 := vp_in_nI r20 (by decide)
  have hw7 := tr_w7 hq
  obtain ⟨rA1, rA2, rA3, rA4, rA5⟩ := hR.2.2.2.2.1 n hn
  have rB := hR.2.2.2.2.2.1 n hn
  rw [hw] at rB
  obtain ⟨rB0, rB1, rB2⟩ := rB
  have su := sc_su_t.mp hsu
  obtain ⟨bd1, bd2, bd3, bd4⟩ := sk_bd (sc_p5 hA) _ _ _ _ _ _ _ hK
  have SU : ∀ post : SY → Prop, (vp_in (nI w) 20 ∧ ((kk (nI w).toNatClampNeg = 9 → wpY_fields (fun u => match u with | (xT, xL, yW, xC, xG, yV, yD, yR, yA, yF, yO, kk, kb, kp, kf, kn, ki, ka, kg, kh, yb, yw, nu, rs, yt, ys, yc, yl, yn, yv, yo, ym, yf, tv, tt, tg, yp, yh) => post (xT, xL, yW, xC, xG, yV, yD, yR, yA, yF, yO, kk, kb, kp, kf, kn, ki, ka, kg, kh, yb, yw, nu, rs, yt, ys, yc, yl, yn, yv, yo, ym, yf, tv, tt, tg, yp, yh)) (xT, xL, yW, xC, nI G.1, yV, yD, nI q, yA, G.2.1, nI b, kk, kb, kp, kf, kn, ki, ka, kg, kh, yb, yw, nu, G.2.2, yt, ys, yc, yl, yn, yv, yo, ym, yf, tv, tt, tg, yp, yh) (nI n) (nI w) (nI r)) ∧ (¬ kk (nI w).toNatClampNeg = 9 → (vp_in (nI w) 20 ∧ ((kk (nI w).toNatClampNeg = 5 → (vp_in (nI n) 400 ∧ (vp_in (5 * nI w + (yv (nI n).toNatClampNeg).toInt32) 100 ∧ (∀ x7_93 : Int32, x7_93 = kn (5 * nI w + (yv (nI n).toNatClampNeg).toInt32).toNatClampNeg → (wpY_find (fun r_94 => ((0 ≤ r_94 → (wY_turn_186 post x7_93 xT xL yW xC (nI G.1) yV yD (nI q) yA G.2.1 (nI b) kk kb kp kf kn ki ka kg kh yb yw nu G.2.2 yt ys yc yl yn yv yo ym yf tv tt tg yp yh)) ∧ (¬ 0 ≤ r_94 → (vp_in (nI r) 20 ∧ (∀ x7_176 : Int32, x7_176 = kf (nI r).toNatClampNeg → (wY_turn_186 post x7_176 xT xL yW xC (nI G.1) yV yD (nI q) yA G.2.1 (nI b) kk kb kp kf kn ki ka kg kh yb yw nu G.2.2 yt ys yc yl yn yv yo ym yf tv tt tg yp yh)))))) (xT, xL, yW, xC, nI G.1, yV, yD, nI q, yA, G.2.1, nI b, kk, kb, kp, kf, kn, ki, ka, kg, kh, yb, yw, nu, G.2.2, yt, ys, yc, yl, yn, yv, yo, ym, yf, tv, tt, tg, yp, yh) (nI r) x7_93))))) ∧ (¬ kk (nI w).toNatClampNeg = 5 → wpY_plain (fun u => match u with | (xT, xL, yW, xC, xG, yV, yD, yR, yA, yF, yO, kk, kb, kp, kf, kn, ki, ka, kg, kh, yb, yw, nu, rs, yt, ys, yc, yl, yn, yv, yo, ym, yf, tv, tt, tg, yp, yh) => post (xT, xL, yW, xC, xG, yV, yD, yR, yA, yF, yO, kk, kb, kp, kf, kn, ki, ka, kg, kh, yb, yw, nu, rs, yt, ys, yc, yl, yn, yv, yo, ym, yf, tv, tt, tg, yp, yh)) (xT, xL, yW, xC, nI G.1, yV, yD, nI q, yA, G.2.1, nI b, kk, kb, kp, kf, kn, ki, ka, kg, kh, yb, yw, nu, G.2.2, yt, ys, yc, yl, yn, yv, yo, ym, yf, tv, tt, tg, yp, yh) (nI n) (nI w) (nI r))))))) → (wY_turn_90 post (nI n) (nI w) (nI r) xT xL yW xC (nI G.1) yV yD (nI q) yA G.2.1 (nI b) kk kb kp kf kn ki ka kg kh yb yw nu G.2.2 yt ys yc yl yn yv yo ym yf tv tt tg yp yh) := by
    intro post k
    unfold wY_turn_90
    exact ys_suits hA w20 r20 (fun _ => br_f (by decide) k) (fun e => absurd hsu (by rw [e]; decide))
  have er : D r = 7 := by omega
  have m40 := f7 hk
  obtain ⟨bx, by'⟩ := rB2 (by omega)
  have k7 : kk (nI w).toNatClampNeg = nI 7 := bg_ck hA w20 hk
  have cmn : cm n = mb n := by
    rw [(hR.2.2.2.1 n hn).1]
    unfold rd_nch
    rw [hw, if_pos hk]
  have kid : 0 < mb n → n + 1 < N ∧ par (n + 1) = n ∧ idx (n + 1) = 0 ∧ yc n = nI (n + 1) := fun h => tr_kid hR hn (by omega)
  have fit : n + 1 + mb n ≤ en n := by
    by_cases z : mb n = 0
    · omega
    · obtain ⟨k1, k2, k3, k4⟩ := kid (by omega)
      have := tr_fit hR (mb n - 1) (n + 1) (by omega) k1 (by rw [k2, k3]; omega)
      rw [k2] at this
      omega
  have hG1 := gv_k hG (lN (mb n))
  obtain ⟨tv', tt', h1, h2, h3⟩ := pu_159 (xT := xT) (xL := xL) (yW := yW) (xC := xC) (xG := nI (gv G (lN (mb n))).1) (yV := yV) (yD := yD) (yR := nI q) (yA := yA) (yF := (gv G (lN (mb n))).2.1) (kf := kf) (kn := kn) (ka := ka) (kg := kg) (kh := kh) (yb := yb) (yw := yw) (nu := nu) (rs := (gv G (lN (mb n))).2.2) (yl := yl) (yo := yo) (ym := ym) (yf := yf) (tg := tg) (yp := yp) (yh := yh) hA hR (r := r) (b := b) (l := mb n) r20 m40 (by omega) (mb n) 0 (mb n + 1) (n + 1) (yc n) tv tt (by omega) (by omega) (fun h => by
    obtain ⟨k1, k2, k3, k4⟩ := kid h
    exact ⟨k4, by omega, k1, by rw [k2, k3]; omega⟩)
  refine ⟨gv G (lN (mb n)), (nI (d + 1), nI q, upd xo d (nI (n + 1)), upd xt d (nI r), upd xp d 0, upd xl d (nI (mb n))), (nI q, nI (b + mb n), tv', tt', tg), fun h => gv_id h _, fun _ _ => ?_, fun _ post k => ?_, fun post k => SU post ⟨vw, br_f (by rw [k7]; decide) ⟨vw, br_f (by rw [k7]; decide) ?_⟩⟩⟩
  · refine ⟨hG1.1, d + 1, b + mb n, n + 1, a + 1, q, s + mb n, u + tr_w q * (en n - (n + 1)) + 1, ?_, hq, ?_, rfl, rfl, rfl, rfl⟩
    · refine ⟨b, H, a, q, s, u, r, sk_fr _ _ _ _ _ _ _ hK (fun j hj => ⟨ba_un (by omega), ba_un (by omega), ba_un (by omega), ba_un (by omega)⟩) (fun j hj => ⟨(h1 j (by omega)).1, (h1 j (by omega)).2, rfl⟩), hr, ba_us, Or.inl ⟨er, n + 1, mb n, en n, ba_us, ba_us, m40, by omega, by omega, fit, hH, fun h => ?_, h2, rfl, rfl, rfl, rfl, rfl, rfl⟩⟩
      obtain ⟨k1, k2, k3, k4⟩ := kid h
      rw [k2, k3, hw]
      exact ⟨by omega, k1, by omega, by omega, ha, hk⟩
    · have := vi_lt (a := tr_w q) (x := en n - n) (by omega) (by omega)
      have e : en n - (n + 1) = en n - n - 1 := by omega
      rw [e]; omega
  · refine And.intro vr (nm_r (e' := nI 7) (bg_ck hA r20 er) (br_f (by decide) (br_f (by decide) (br_f (by decide) (br_f (by decide) (br_f (by decide) (br_t rfl ⟨vn4, ?_⟩)))))))
    rw [cn, bx]
    refine gx_give hG ⟨vn4, ?_⟩
    rw [bx, lN_i, nI_1]
    exact xf_opens (by omega) (ba_s (by omega)) r20 (by omega) k
  · refine And.intro vw (br_f (by rw [k7]; decide) (And.intro vw ?_))
    rw [k7]
    refine yf_in_n (Or.inr (by decide)) (br_t rfl ⟨vw, br_t rfl (And.intro vn4 ?_)⟩)
    rw [cn, by']
    refine gy_out hG (And.intro vw (br_f (by rw [k7]; decide) ⟨vw, br_f (by rw [k7]; decide) (Exists.intro 1 (br_t (by decide) ⟨vw, br_t (by rw [k7]; rfl) ⟨vn4, nm_r (e' := nI (mb n)) (by rw [cn, by', lN_i]) ⟨vn4, nm_r (e' := yc n) (by rw [cn]) (Exists.intro (mb n + 1) (h3 _ k))⟩⟩⟩))⟩))
theorem vi_record (hA : sc_A D B P I kk kb kp ki) (hS : sc_T T D B P I kn kh kd kg) (hB : by_ok xb yb bb) (hL : L ≤ 100) (hR : tr_ok T L D B P N ty st en mb par idx cm vt va ve yt ys yc yn vn yv)
    {G : gv_T} (hG : gv_ok G) {b H a q s u n w r : Nat} (hK : sk T D B P I kn ka kh kg N ty st en par idx cm xo xt xp xl tv tt tg d b H a q s u) (hq : q ≤ 10) (hn : n < N) (hw : ty n = w) (hr : r < T) (hsu : sc_su D B w r = true) (hr8 : ¬ D r = 8) (hH : en n ≤ H) (ha : a ≤ st n) (hk : D w = 9) : ∃ (G' : gv_T) (sx : rv_SX) (sy : rv_SY), (¬ G.2.1 = 0 → G' = G) ∧ (G.2.1 = 0 → G'.2.1 = 0 → rv_G T D B P I kn ka kh kg N ty st en par idx cm (u + tr_w q * (en n - n)) G' sx sy)
      ∧ (G.2.1 = 0 → ∀ post : SX → Prop, post (xT, xL, xC, nI G'.1, xV, xA, G'.2.1, sx.1, sx.2.1, xS, xK, xI, kk, kb, kp, kn, ki, ka, kh, kd, kf, xb, nu, G'.2.2, vt, vn, va, ve, sx.2.2.1, sx.2.2.2.1, sx.2.2.2.2.1, sx.2.2.2.2.2, xd, xm, xz, xu, xe, xc, xf) → (wpX_simple post (xT, xL, xC, nI G.1, xV, xA, G.2.1, nI d, nI q, xS, xK, xI, kk, kb, kp, kn, ki, ka, kh, kd, kf, xb, nu, G.2.2, vt, vn, va, ve, xo, xt, xp, xl, xd, xm, xz, xu, xe, xc, xf) (nI n) (nI w) (nI r)))
      ∧ (∀ post : SY → Prop, post (xT, xL, yW, xC, nI G'.1, yV, yD, sy.1, yA, G'.2.1, sy.2.1, kk, kb, kp, kf, kn, ki, ka, kg, kh, yb, yw, nu, G'.2.2, yt, ys, yc, yl, yn, yv, yo, ym, yf, sy.2.2.1, sy.2.2.2.1, sy.2.2.2.2, yp, yh) → (wY_turn_90 post (nI n) (nI w) (nI r) xT xL yW xC (nI G.1) yV yD (nI q) yA G.2.1 (nI b) kk kb kp kf kn ki ka kg kh yb yw nu G.2.2 yt ys yc yl yn yv yo ym yf tv tt tg yp yh)) := by
  have hT20 := sc_T20 hS
  have N4 := hR.1.2
  have hVn := hR.2.1 n hn
  rw [hw] at hVn
  obtain ⟨f1, f2, f3, f4, f5, f6, f7, f8⟩ := hVn
  have w20 : w < 20 := by omega
  have r20 : r < 20 := by omega
  have h9 := sc_k9 hA w
  have h9r := sc_k9 hA r
  have vn4 : vp_in (nI n) 400 := vp_in_nI (by omega) (by decide)
  have cn : (nI n).toNatClampNeg = n := nI_clamp (by omega)
  have vw : vp_in (nI w) 20 := vp_in_nI w20 (by decide)
  have vr : vp_in (nI r) 20 := vp_in_nI r20 (by decide)
  have hw7 := tr_w7 hq
  obtain ⟨rA1, rA2, rA3, rA4, rA5⟩ := hR.2.2.2.2.1 n hn
  have rB := hR.2.2.2.2.2.1 n hn
  rw [hw] at rB
  obtain ⟨rB0, rB1, rB2⟩ := rB
  have su := sc_su_t.mp hsu
  obtain ⟨bd1, bd2, bd3, bd4⟩ := sk_bd (sc_p5 hA) _ _ _ _ _ _ _ hK
  have SU : ∀ post : SY → Prop, (vp_in (nI w) 20 ∧ ((kk (nI w).toNatClampNeg = 9 → wpY_fields (fun u => match u with | (xT, xL, yW, xC, xG, yV, yD, yR, yA, yF, yO, kk, kb, kp, kf, kn, ki, ka, kg, kh, yb, yw, nu, rs, yt, ys, yc, yl, yn, yv, yo, ym, yf, tv, tt, tg, yp, yh) => post (xT, xL, yW, xC, xG, yV, yD, yR, yA, yF, yO, kk, kb, kp, kf, kn, ki, ka, kg, kh, yb, yw, nu, rs, yt, ys, yc, yl, yn, yv, yo, ym, yf, tv, tt, tg, yp, yh)) (xT, xL, yW, xC, nI G.1, yV, yD, nI q, yA, G.2.1, nI b, kk, kb, kp, kf, kn, ki, ka, kg, kh, yb, yw, nu, G.2.2, yt, ys, yc, yl, yn, yv, yo, ym, yf, tv, tt, tg, yp, yh) (nI n) (nI w) (nI r)) ∧ (¬ kk (nI w).toNatClampNeg = 9 → (vp_in (nI w) 20 ∧ ((kk (nI w).toNatClampNeg = 5 → (vp_in (nI n) 400 ∧ (vp_in (5 * nI w + (yv (nI n).toNatClampNeg).toInt32) 100 ∧ (∀ x7_93 : Int32, x7_93 = kn (5 * nI w + (yv (nI n).toNatClampNeg).toInt32).toNatClampNeg → (wpY_find (fun r_94 => ((0 ≤ r_94 → (wY_turn_186 post x7_93 xT xL yW xC (nI G.1) yV yD (nI q) yA G.2.1 (nI b) kk kb kp kf kn ki ka kg kh yb yw nu G.2.2 yt ys yc yl yn yv yo ym yf tv tt tg yp yh)) ∧ (¬ 0 ≤ r_94 → (vp_in (nI r) 20 ∧ (∀ x7_176 : Int32, x7_176 = kf (nI r).toNatClampNeg → (wY_turn_186 post x7_176 xT xL yW xC (nI G.1) yV yD (nI q) yA G.2.1 (nI b) kk kb kp kf kn ki ka kg kh yb yw nu G.2.2 yt ys yc yl yn yv yo ym yf tv tt tg yp yh)))))) (xT, xL, yW, xC, nI G.1, yV, yD, nI q, yA, G.2.1, nI b, kk, kb, kp, kf, kn, ki, ka, kg, kh, yb, yw, nu, G.2.2, yt, ys, yc, yl, yn, yv, yo, ym, yf, tv, tt, tg, yp, yh) (nI r) x7_93))))) ∧ (¬ kk (nI w).toNatClampNeg = 5 → wpY_plain (fun u => match u with | (xT, xL, yW, xC, xG, yV, yD, yR, yA, yF, yO, kk, kb, kp, kf, kn, ki, ka, kg, kh, yb, yw, nu, rs, yt, ys, yc, yl, yn, yv, yo, ym, yf, tv, tt, tg, yp, yh) => post (xT, xL, yW, xC, xG, yV, yD, yR, yA, yF, yO, kk, kb, kp, kf, kn, ki, ka, kg, kh, yb, yw, nu, rs, yt, ys, yc, yl, yn, yv, yo, ym, yf, tv, tt, tg, yp, yh)) (xT, xL, yW, xC, nI G.1, yV, yD, nI q, yA, G.2.1, nI b, kk, kb, kp, kf, kn, ki, ka, kg, kh, yb, yw, nu, G.2.2, yt, ys, yc, yl, yn, yv, yo, ym, yf, tv, tt, tg, yp, yh) (nI n) (nI w) (nI r))))))) → (wY_turn_90 post (nI n) (nI w) (nI r) xT xL yW xC (nI G.1) yV yD (nI q) yA G.2.1 (nI b) kk kb kp kf kn ki ka kg kh yb yw nu G.2.2 yt ys yc yl yn yv yo ym yf tv tt tg yp yh) := by
    intro post k
    unfold wY_turn_90
    exact ys_suits hA w20 r20 (fun _ => br_f (by decide) k) (fun e => absurd hsu (by rw [e]; decide))
  have er : D r = 9 := by omega
  have hP5 := sc_p5 hA r
  have k9 : kk (nI w).toNatClampNeg = nI 9 := bg_ck hA w20 hk
  have cr : (nI r).toNatClampNeg = r := nI_clamp (by omega)
  have f : ∃ F : Int32, F = (if G.2.1 = 0 ∧ q = 10 then -5 else G.2.1) := ⟨_, rfl⟩
  obtain ⟨F, hF⟩ := f
  obtain ⟨tv', tt', tg', h1, h2, h3⟩ := pu_14 (xT := xT) (xL := xL) (yW := yW) (xC := xC) (xG := nI G.1) (yV := yV) (yD := yD) (yR := nI q + 1) (yA := yA) (yF := F) (kf := kf) (kn := kn) (ka := ka) (kg := kg) (kh := kh) (yb := yb) (yw := yw) (nu := nu) (rs := G.2.2) (yl := yl) (yo := yo) (ym := ym) (yf := yf) (yp := yp) (yh := yh) hA hR (r := r) (b := b) hn hw hk w20 r20 (by omega) (P r) (P r + 1) (upd tv b (-2)) (upd tt b 0) (upd tg b 0) (by omega) (by omega)
  rw [Nat.sub_self] at h1 h3
  have Y : ∀ post : SY → Prop, post (xT, xL, yW, xC, nI G.1, yV, yD, nI q + 1, yA, F, nI (b + 1 + P r), kk, kb, kp, kf, kn, ki, ka, kg, kh, yb, yw, nu, G.2.2, yt, ys, yc, yl, yn, yv, yo, ym, yf, tv', tt', tg', yp, yh) → (wY_turn_90 post (nI n) (nI w) (nI r) xT xL yW xC (nI G.1) yV yD (nI q) yA G.2.1 (nI b) kk kb kp kf kn ki ka kg kh yb yw nu G.2.2 yt ys yc yl yn yv yo ym yf tv tt tg yp yh) := by
    intro post k
    refine SU post ⟨vw, br_t (by rw [k9]; rfl) ?_⟩
    unfold wpY_fields
    have J : vp_in (nI r) 20 ∧ (∀ x4_41 : Int32, x4_41 = kp (nI r).toNatClampNeg - 1 → (∃ n14 : Nat, (wY_fields_14 (fun u => match u with | (xT, xL, yW, xC, xG, yV, yD, yR, yA, yF, yO, kk, kb, kp, kf, kn, ki, ka, kg, kh, yb, yw, nu, rs, yt, ys, yc, yl, yn, yv, yo, ym, yf, tv, tt, tg, yp, yh) => post (xT, xL, yW, xC, xG, yV, yD, yR, yA, yF, yO, kk, kb, kp, kf, kn, ki, ka, kg, kh, yb, yw, nu, rs, yt, ys, yc, yl, yn, yv, yo, ym, yf, tv, tt, tg, yp, yh)) (nI n) (nI w) (nI r) n14 x4_41 xT xL yW xC (nI G.1) yV yD (nI q + 1) yA F (nI (b + 1)) kk kb kp kf kn ki ka kg kh yb yw nu G.2.2 yt ys yc yl yn yv yo ym yf (upd tv b (-2)) (upd tt b 0) (upd tg b 0) yp yh))) :=
      ⟨vr, nm_r (e' := nI (P r) - 1) (by rw [cr, sc_p hA]) (Exists.intro (P r + 1) (h3 _ k))⟩
    by_cases z : G.2.1 = 0 ∧ q = 10
    · rw [if_pos z] at hF
      obtain ⟨z1, z2⟩ := z
      rw [z1]
      subst z2
      rw [hF] at J
      exact yf_enter_d (by omega) J
    · rw [if_neg z] at hF
      rw [hF] at J
      exact yf_enter (by omega) (fun e => z ⟨e.1, (ba_e10 (by omega)).mp e.2⟩) J
  by_cases z : G.2.1 = 0 ∧ q = 10
  · obtain ⟨z1, z2⟩ := z
    rw [if_pos ⟨z1, z2⟩] at hF
    subst hF
    refine ⟨(G.1, -5, G.2.2), (nI d, nI q, xo, xt, xp, xl), (nI q + 1, nI (b + 1 + P r), tv', tt', tg'), fun h => absurd z1 h, fun _ h => absurd h (by show ¬ (-5 : Int32) = 0; decide), fun _ post k => ?_, Y⟩
    refine And.intro vr (nm_r (e' := nI 9) (bg_ck hA r20 er) (br_f (by decide) (br_f (by decide) (br_f (by decide) (br_f (by decide) (br_f (by decide) (br_f (by decide) (br_f (by decide) (br_t rfl ?_)))))))))
    rw [z1]
    subst z2
    exact xf_enter_d k
  · rw [if_neg z] at hF
    subst hF
    refine ⟨G, (nI (d + 1), nI (q + 1), upd xo d (nI n), upd xt d (nI r), upd xp d 0, upd xl d 0), (nI q + 1, nI (b + 1 + P r), tv', tt', tg'), fun _ => rfl, fun g0 _ => ?_, fun g0 post k => ?_, Y⟩
    · have q10 : q < 10 := by
        rcases Nat.lt_or_ge q 10 with y | y
        · exact y
        · exact absurd ⟨g0, by omega⟩ z
      refine ⟨hG.1, d + 1, b + 1 + P r, H, a, q + 1, s, u + (P r - 0) * (tr_w (q + 1) * (en n - n)) + 1, ?_, by omega, ?_, rfl, rfl, nI_1 q, rfl⟩
      · refine ⟨b, H, a, q, s, u, r, sk_fr _ _ _ _ _ _ _ hK (fun j hj => ⟨ba_un (by omega), ba_un (by omega), ba_un (by omega), ba_un (by omega)⟩) (fun j hj => ?_), hr, ba_us, Or.inr ⟨er, 0, ba_us, by omega, ?_, by omega, rfl, rfl, rfl, rfl, Or.inr ⟨n, ba_us, hn, by rw [hw]; exact hk, hH, ha, fun j _ hj => h2 j hj, rfl⟩⟩⟩
        · obtain ⟨e1, e2, e3⟩ := h1 j (by omega)
          dsimp only
          rw [e1, e2, e3, ba_un (by omega), ba_un (by omega), ba_un (by omega)]
          exact ⟨rfl, rfl, rfl⟩
        · have := (h1 b (by omega)).1
          dsimp only
          rw [this, ba_us]
      · have e := tr_ws q10
        have := vi_lt7 (W := tr_w (q + 1)) (x := en n - n) (m := P r - 0) (tr_w7 (by omega)) (by omega) (by omega)
        rw [e]; omega
    · refine And.intro vr (nm_r (e' := nI 9) (bg_ck hA r20 er) (br_f (by decide) (br_f (by decide) (br_f (by decide) (br_f (by decide) (br_f (by decide) (br_f (by decide) (br_f (by decide) (br_t rfl ?_)))))))))
      have nq : ¬ nI q = 10 := fun e => z ⟨g0, (ba_e10 (by omega)).mp e⟩
      have k' : post (xT, xL, xC, nI G.1, xV, xA, G.2.1, nI (d + 1), nI q + 1, xS, xK, xI, kk, kb, kp, kn, ki, ka, kh, kd, kf, xb, nu, G.2.2, vt, vn, va, ve, upd xo d (nI n), upd xt d (nI r), upd xp d 0, upd xl d 0, xd, xm, xz, xu, xe, xc, xf) := by
        rw [nI_1]; exact k
      exact xf_enter nq (by omega) (ba_s (by omega)) r20 k'
end
end
section
section
variable {xT xL xC xG xV xA xF xD xN xS xK xI yW yV yD yR yA yF yO : Int32} {kk kb kp kn ki ka kh kd kf xb vt va ve xo xt xp xl xd xm xz xu xe xc xf kg yb yw yt ys yc yl yn yo ym yf tv tt tg yp yh : Nat → Int32} {nu rs vn yv : Nat → Int64}
variable {D B P I bb : Nat → Nat} {T L N d p t : Nat} {ty st en mb par idx cm lc op lf : Nat → Nat}
theorem vi_all (hA : sc_A D B P I kk kb kp ki) (hS : sc_T T D B P I kn kh kd kg) (hB : by_ok xb yb bb) (hL : L ≤ 100) (hR : tr_ok T L D B P N ty st en mb par idx cm vt va ve yt ys yc yn vn yv)
    {G : gv_T} (hG : gv_ok G) {b H a q s u n w r : Nat} (hK : sk T D B P I kn ka kh kg N ty st en par idx cm xo xt xp xl tv tt tg d b H a q s u) (hq : q ≤ 10) (hn : n < N) (hw : ty n = w) (hr : r < T) (hsu : sc_su D B w r = true) (hr8 : ¬ D r = 8) (hH : en n ≤ H) (ha : a ≤ st n) :
    ∃ (G' : gv_T) (sx : rv_SX) (sy : rv_SY), (¬ G.2.1 = 0 → G' = G) ∧ (G.2.1 = 0 → G'.2.1 = 0 → rv_G T D B P I kn ka kh kg N ty st en par idx cm (u + tr_w q * (en n - n)) G' sx sy)
      ∧ (G.2.1 = 0 → ∀ post : SX → Prop, post (xT, xL, xC, nI G'.1, xV, xA, G'.2.1, sx.1, sx.2.1, xS, xK, xI, kk, kb, kp, kn, ki, ka, kh, kd, kf, xb, nu, G'.2.2, vt, vn, va, ve, sx.2.2.1, sx.2.2.2.1, sx.2.2.2.2.1, sx.2.2.2.2.2, xd, xm, xz, xu, xe, xc, xf) → (wpX_simple post (xT, xL, xC, nI G.1, xV, xA, G.2.1, nI d, nI q, xS, xK, xI, kk, kb, kp, kn, ki, ka, kh, kd, kf, xb, nu, G.2.2, vt, vn, va, ve, xo, xt, xp, xl, xd, xm, xz, xu, xe, xc, xf) (nI n) (nI w) (nI r)))
      ∧ (∀ post : SY → Prop, post (xT, xL, yW, xC, nI G'.1, yV, yD, sy.1, yA, G'.2.1, sy.2.1, kk, kb, kp, kf, kn, ki, ka, kg, kh, yb, yw, nu, G'.2.2, yt, ys, yc, yl, yn, yv, yo, ym, yf, sy.2.2.1, sy.2.2.2.1, sy.2.2.2.2, yp, yh) → (wY_turn_90 post (nI n) (nI w) (nI r) xT xL yW xC (nI G.1) yV yD (nI q) yA G.2.1 (nI b) kk kb kp kf kn ki ka kg kh yb yw nu G.2.2 yt ys yc yl yn yv yo ym yf tv tt tg yp yh)) := by
  have h9 := sc_k9 hA w
  have su := sc_su_t.mp hsu
  by_cases e3 : D w ≤ 3
  · exact vi_leaf hA hS hB hL hR hG hK hq hn hw hr hsu hr8 hH ha e3
  by_cases e4 : D w = 4
  · exact vi_text hA hS hB hL hR hG hK hq hn hw hr hsu hr8 hH ha e4
  by_cases e5 : D w = 5
  · exact vi_enum hA hS hB hL hR hG hK hq hn hw hr hsu hr8 hH ha e5
  by_cases e6 : D w = 6
  · exact vi_fixed hA hS hB hL hR hG hK hq hn hw hr hsu hr8 hH ha e6
  by_cases e7 : D w = 7
  · exact vi_array hA hS hB hL hR hG hK hq hn hw hr hsu hr8 hH ha e7
  exact vi_record hA hS hB hL hR hG hK hq hn hw hr hsu hr8 hH ha (by omega)
theorem vi_n (hA : sc_A D B P I kk kb kp ki) (hS : sc_T T D B P I kn kh kd kg) (hB : by_ok xb yb bb) (hL : L ≤ 100) (hR : tr_ok T L D B P N ty st en mb par idx cm vt va ve yt ys yc yn vn yv)
    {G : gv_T} (hG : gv_ok G) (g0 : G.2.1 = 0) {b H a q s u n z : Nat} (hK : sk T D B P I kn ka kh kg N ty st en par idx cm xo xt xp xl tv tt tg d b H a q s u) (hq : q ≤ 10) (hn : n < N) (hz : z < T) (hH : en n ≤ H) (ha : a ≤ st n) :
    ∃ (G' : gv_T) (sx : rv_SX) (sy : rv_SY), (G'.2.1 = 0 → rv_G T D B P I kn ka kh kg N ty st en par idx cm (u + tr_w q * (en n - n)) G' sx sy)
      ∧ (∀ post : SX → Prop, post (xT, xL, xC, nI G'.1, xV, xA, G'.2.1, sx.1, sx.2.1, xS, xK, xI, kk, kb, kp, kn, ki, ka, kh, kd, kf, xb, nu, G'.2.2, vt, vn, va, ve, sx.2.2.1, sx.2.2.2.1, sx.2.2.2.2.1, sx.2.2.2.2.2, xd, xm, xz, xu, xe, xc, xf) → (wX_resolve_23 post (nI z) (nI n) xT xL xC (nI G.1) xV xA G.2.1 (nI d) (nI q) xS xK xI kk kb kp kn ki ka kh kd kf xb nu G.2.2 vt vn va ve xo xt xp xl xd xm xz xu xe xc xf))
      ∧ (∀ post : SY → Prop, post (xT, xL, yW, xC, nI G'.1, yV, yD, sy.1, yA, G'.2.1, sy.2.1, kk, kb, kp, kf, kn, ki, ka, kg, kh, yb, yw, nu, G'.2.2, yt, ys, yc, yl, yn, yv, yo, ym, yf, sy.2.2.1, sy.2.2.2.1, sy.2.2.2.2, yp, yh) → (wY_turn_26 post (nI z) (nI n) xT xL yW xC (nI G.1) yV yD (nI q) yA G.2.1 (nI b) kk kb kp kf kn ki ka kg kh yb yw nu G.2.2 yt ys yc yl yn yv yo ym yf tv tt tg yp yh)) := by
  have hT20 := sc_T20 hS
  have N4 := hR.1.2
  have wT := (hR.2.1 n hn).1
  have w20 : ty n < 20 := by omega
  have z20 : z < 20 := by omega
  have vn4 : vp_in (nI n) 400 := vp_in_nI (by omega) (by decide)
  have cn : (nI n).toNatClampNeg = n := nI_clamp (by omega)
  have vz : vp_in (nI z) 20 := vp_in_nI z20 (by decide)
  have h9z := sc_k9 hA z
  have ev : vt (nI n).toNatClampNeg = nI (ty n) := by rw [cn]; exact (hR.2.2.2.2.1 n hn).1
  have ey : yt (nI n).toNatClampNeg = nI (ty n) := by rw [cn]; exact (hR.2.2.2.2.1 n hn).2.2.2.1
  by_cases e8 : D z = 8
  · have k8 : kk (nI z).toNatClampNeg = 8 := by rw [bg_ck hA z20 e8]; rfl
    have h5 := sc_p5 hA z
    rcases sc_bf_r (D := D) (B := B) (P := P) (I := I) (w := ty n) (r := z) h5 with ⟨hf, _⟩ | ⟨f, hf1, hf, hf2⟩
    · refine ⟨(G.1, -6, G.2.2), (nI d, nI q, xo, xt, xp, xl), (nI q, nI b, tv, tt, tg), fun h => absurd h (by show ¬ (-6 : Int32) = 0; decide), fun post k => ?_, fun post k => ?_⟩
      · refine And.intro vn4 (nm_r ev ⟨vz, br_t k8 (xs_bf hA w20 z20 ?_)⟩)
        rw [hf]
        refine br_f ba_m1le ?_
        rw [g0]
        exact xf_fail k
      · refine And.intro vn4 (nm_r ey ⟨vz, br_t k8 (ys_bf hA w20 z20 ?_)⟩)
        rw [hf]
        exact br_f ba_m1le k
    · have rT : I (5 * z + f) < T := sc_iT hS _ (by omega)
      have r8 := sc_u hS e8 hf1
      have hG1 := gv_k hG (nI f).toInt64
      have v5 : vp_in (nI (5 * z + f)) 100 := vp_in_nI (by omega) (by decide)
      have c5 : (nI (5 * z + f)).toNatClampNeg = 5 * z + f := nI_clamp (by omega)
      obtain ⟨G', sx, sy, h1, h2, hX, hY⟩ := vi_all (xT := xT) (xL := xL) (xC := xC) (xV := xV) (xA := xA) (xS := xS) (xK := xK) (xI := xI) (kf := kf) (nu := nu) (xd := xd) (xm := xm) (xz := xz) (xu := xu) (xe := xe) (xc := xc) (xf := xf) (yW := yW) (yV := yV) (yD := yD) (yA := yA) (yw := yw) (yl := yl) (yo := yo) (ym := ym) (yf := yf) (yp := yp) (yh := yh) hA hS hB hL hR hG1 hK hq hn rfl rT hf2 r8 hH ha
      have Y : ∀ post : SY → Prop, post (xT, xL, yW, xC, nI G'.1, yV, yD, sy.1, yA, G'.2.1, sy.2.1, kk, kb, kp, kf, kn, ki, ka, kg, kh, yb, yw, nu, G'.2.2, yt, ys, yc, yl, yn, yv, yo, ym, yf, sy.2.2.1, sy.2.2.2.1, sy.2.2.2.2, yp, yh) → (wY_turn_26 post (nI z) (nI n) xT xL yW xC (nI G.1) yV yD (nI q) yA G.2.1 (nI b) kk kb kp kf kn ki ka kg kh yb yw nu G.2.2 yt ys yc yl yn yv yo ym yf tv tt tg yp yh) := by
        intro post k
        refine And.intro vn4 (nm_r ey ⟨vz, br_t k8 (ys_bf hA w20 z20 ?_)⟩)
        rw [hf]
        refine br_t (nI_pos' (by omega)) (gy_out hG ?_)
        show vp_in (5 * nI z + nI f) 100 ∧ _
        rw [ba_5, nI_add]
        exact ⟨v5, nm_r (e' := nI (I (5 * z + f))) (by rw [c5, sc_i hA]) (hY post k)⟩
      have X : ∀ post : SX → Prop, (wX_resolve_107 post (nI n) (nI (ty n)) (nI (I (5 * z + f))) xT xL xC (nI (gv G (nI f).toInt64).1) xV xA ((gv G (nI f).toInt64).2.1) (nI d) (nI q) xS xK xI kk kb kp kn ki ka kh kd kf xb nu ((gv G (nI f).toInt64).2.2) vt vn va ve xo xt xp xl xd xm xz xu xe xc xf) → (wX_resolve_23 post (nI z) (nI n) xT xL xC (nI G.1) xV xA G.2.1 (nI d) (nI q) xS xK xI kk kb kp kn ki ka kh kd kf xb nu G.2.2 vt vn va ve xo xt xp xl xd xm xz xu xe xc xf) := by
        intro post k
        refine And.intro vn4 (nm_r ev ⟨vz, br_t k8 (xs_bf hA w20 z20 ?_)⟩)
        rw [hf]
        refine br_t (nI_pos' (by omega)) (gx_give hG ?_)
        show vp_in (5 * nI z + nI f) 100 ∧ _
        rw [ba_5, nI_add]
        refine ⟨v5, nm_r (e' := nI (I (5 * z + f))) (by rw [c5, sc_i hA]) ?_⟩
        unfold wX_resolve_90
        exact xs_suits hA w20 (by omega) (fun _ => br_f (by decide) k) (fun e => absurd hf2 (by rw [e]; decide))
      by_cases g1 : (gv G (nI f).toInt64).2.1 = 0
      · exact ⟨G', sx, sy, h2 g1, fun post k => X post (br_t g1 (hX g1 _ k)), Y⟩
      · refine ⟨G', (nI d, nI q, xo, xt, xp, xl), sy, fun h => absurd h (by rw [h1 g1]; exact g1), fun post k => X post (br_f g1 ?_), Y⟩
        rw [h1 g1] at k
        exact k
  · have k8 : ¬ kk (nI z).toNatClampNeg = 8 := by rw [bg_ck hA z20 rfl]; exact fun e => e8 ((ba_e8 (by omega)).mp e)
    by_cases hsu : sc_su D B (ty n) z = true
    · obtain ⟨G', sx, sy, h1, h2, hX, hY⟩ := vi_all (xT := xT) (xL := xL) (xC := xC) (xV := xV) (xA := xA) (xS := xS) (xK := xK) (xI := xI) (kf := kf) (nu := nu) (xd := xd) (xm := xm) (xz := xz) (xu := xu) (xe := xe) (xc := xc) (xf := xf) (yW := yW) (yV := yV) (yD := yD) (yA := yA) (yw := yw) (yl := yl) (yo := yo) (ym := ym) (yf := yf) (yp := yp) (yh := yh) hA hS hB hL hR hG hK hq hn rfl hz hsu e8 hH ha
      refine ⟨G', sx, sy, h2 g0, fun post k => And.intro vn4 (nm_r ev ⟨vz, br_f k8 ?_⟩), fun post k => And.intro vn4 (nm_r ey ⟨vz, br_f k8 (hY post k)⟩)⟩
      unfold wX_resolve_90
      exact xs_suits hA w20 z20 (fun _ => br_f (by decide) (br_t g0 (hX g0 _ k))) (fun e => absurd hsu (by rw [e]; decide))
    · refine ⟨(G.1, -6, G.2.2), (nI d, nI q, xo, xt, xp, xl), (nI q, nI b, tv, tt, tg), fun h => absurd h (by show ¬ (-6 : Int32) = 0; decide), fun post k => And.intro vn4 (nm_r ev ⟨vz, br_f k8 ?_⟩), fun post k => And.intro vn4 (nm_r ey ⟨vz, br_f k8 ?_⟩)⟩
      · unfold wX_resolve_90
        refine xs_suits hA w20 z20 (fun e => absurd e hsu) (fun _ => br_t rfl ?_)
        rw [g0]
        exact xf_fail (br_f (by decide) k)
      · unfold wY_turn_90
        exact ys_suits hA w20 z20 (fun e => absurd e hsu) (fun _ => br_t rfl k)
theorem vi_item (hA : sc_A D B P I kk kb kp ki) (hS : sc_T T D B P I kn kh kd kg) (hB : by_ok xb yb bb) (hL : L ≤ 100) (hR : tr_ok T L D B P N ty st en mb par idx cm vt va ve yt ys yc yn vn yv)
    {G : gv_T} (hG : gv_ok G) (g0 : G.2.1 = 0) {b H a q s u v z : Nat} (hK : sk T D B P I kn ka kh kg N ty st en par idx cm xo xt xp xl tv tt tg d b H a q s u) (hq : q ≤ 10) (hv : v < N) (hz : z < T) (hH : en v ≤ H) (ha : a ≤ st v) :
    ∃ (G' : gv_T) (sx : rv_SX) (sy : rv_SY), (G'.2.1 = 0 → rv_G T D B P I kn ka kh kg N ty st en par idx cm (u + tr_w q * (en v - v)) G' sx sy)
      ∧ (∀ post : SX → Prop, post (xT, xL, xC, nI G'.1, xV, xA, G'.2.1, sx.1, sx.2.1, xS, xK, xI, kk, kb, kp, kn, ki, ka, kh, kd, kf, xb, nu, G'.2.2, vt, vn, va, ve, sx.2.2.1, sx.2.2.2.1, sx.2.2.2.2.1, sx.2.2.2.2.2, xd, xm, xz, xu, xe, xc, xf) → (wpX_resolve post (xT, xL, xC, nI G.1, xV, xA, G.2.1, nI d, nI q, xS, xK, xI, kk, kb, kp, kn, ki, ka, kh, kd, kf, xb, nu, G.2.2, vt, vn, va, ve, xo, xt, xp, xl, xd, xm, xz, xu, xe, xc, xf) (nI v) (nI z)))
      ∧ (∀ post : SY → Prop, post (xT, xL, yW, xC, nI G'.1, yV, yD, sy.1, yA, G'.2.1, sy.2.1, kk, kb, kp, kf, kn, ki, ka, kg, kh, yb, yw, nu, G'.2.2, yt, ys, yc, yl, yn, yv, yo, ym, yf, sy.2.2.1, sy.2.2.2.1, sy.2.2.2.2, yp, yh) → (wpY_turn post (xT, xL, yW, xC, nI G.1, yV, yD, nI q, yA, G.2.1, nI b, kk, kb, kp, kf, kn, ki, ka, kg, kh, yb, yw, nu, G.2.2, yt, ys, yc, yl, yn, yv, yo, ym, yf, tv, tt, tg, yp, yh) (nI v) (nI z))) := by
  have hT20 := sc_T20 hS
  have N4 := hR.1.2
  have wT := (hR.2.1 v hv).1
  have w20 : ty v < 20 := by omega
  have vv : vp_in (nI v) 400 := vp_in_nI (by omega) (by decide)
  have cv : (nI v).toNatClampNeg = v := nI_clamp (by omega)
  have h9 := sc_k9 hA (ty v)
  have ev : vt (nI v).toNatClampNeg = nI (ty v) := by rw [cv]; exact (hR.2.2.2.2.1 v hv).1
  have ey : yt (nI v).toNatClampNeg = nI (ty v) := by rw [cv]; exact (hR.2.2.2.2.1 v hv).2.2.2.1
  have vw : vp_in (nI (ty v)) 20 := vp_in_nI w20 (by decide)
  by_cases e8 : D (ty v) = 8
  · have k8 : kk (nI (ty v)).toNatClampNeg = 8 := by rw [bg_ck hA w20 e8]; rfl
    have cmv : cm v = 1 := by
      rw [(hR.2.2.2.1 v hv).1]
      unfold rd_nch
      rw [if_neg (by omega), if_pos e8]
    obtain ⟨k1, k2, k3, k4⟩ := tr_kid hR hv (by omega)
    have en1 := (hR.2.2.2.1 v hv).2 (v + 1) (by omega) k1 k2
    have st1 := (hR.2.2.1.2.1 (v + 1) (by omega) k1).2.2.2
    rw [k2] at st1
    have f3 := (hR.2.1 (v + 1) k1).2.2.1
    obtain ⟨G', sx, sy, h1, hX, hY⟩ := vi_n (xT := xT) (xL := xL) (xC := xC) (xV := xV) (xA := xA) (xS := xS) (xK := xK) (xI := xI) (kf := kf) (nu := nu) (xd := xd) (xm := xm) (xz := xz) (xu := xu) (xe := xe) (xc := xc) (xf := xf) (yW := yW) (yV := yV) (yD := yD) (yA := yA) (yw := yw) (yl := yl) (yo := yo) (ym := ym) (yf := yf) (yp := yp) (yh := yh) hA hS hB hL hR hG g0 hK hq k1 hz (by omega) (by split at st1 <;> omega)
    refine ⟨G', sx, sy, fun h => ?_, fun post k => And.intro vv ?_, fun post k => And.intro vv ?_⟩
    · obtain ⟨r1, d', b', H', a', q', s', u', r2, r3, r4, r5⟩ := h1 h
      refine ⟨r1, d', b', H', a', q', s', u', r2, r3, ?_, r5⟩
      have : tr_w q * (en (v + 1) - (v + 1)) ≤ tr_w q * (en v - v) := Nat.mul_le_mul_left _ (by omega)
      omega
    · rw [ev]
      refine ⟨vw, br_t k8 ?_⟩
      rw [nI_1]
      exact hX post k
    · rw [ey]
      refine ⟨vw, br_t k8 ⟨vv, ?_⟩⟩
      rw [cv, k4]
      exact hY post k
  · have k8 : ¬ kk (nI (ty v)).toNatClampNeg = 8 := by rw [bg_ck hA w20 rfl]; exact fun e => e8 ((ba_e8 (by omega)).mp e)
    obtain ⟨G', sx, sy, h1, hX, hY⟩ := vi_n (xT := xT) (xL := xL) (xC := xC) (xV := xV) (xA := xA) (xS := xS) (xK := xK) (xI := xI) (kf := kf) (nu := nu) (xd := xd) (xm := xm) (xz := xz) (xu := xu) (xe := xe) (xc := xc) (xf := xf) (yW := yW) (yV := yV) (yD := yD) (yA := yA) (yw := yw) (yl := yl) (yo := yo) (ym := ym) (yf := yf) (yp := yp) (yh := yh) hA hS hB hL hR hG g0 hK hq hv hz hH ha
    refine ⟨G', sx, sy, h1, fun post k => And.intro vv ?_, fun post k => And.intro vv ?_⟩
    · rw [ev]
      exact ⟨vw, br_f k8 (hX post k)⟩
    · rw [ey]
      exact ⟨vw, br_f k8 (hY post k)⟩
end
end
section
section
variable {xT xL xC xG xV xA xF xD xN xS xK xI yW yV yD yR yA yF yO : Int32} {kk kb kp kn ki ka kh kd kf xb vt va ve xo xt xp xl xd xm xz xu xe xc xf kg yb yw yt ys yc yl yn yo ym yf tv tt tg yp yh : Nat → Int32} {nu rs vn yv : Nat → Int64}
variable {D B P I bb : Nat → Nat} {T L N d p t : Nat} {ty st en mb par idx cm lc op lf : Nat → Nat}
/-- the symbol of a default -/
theorem di_ix (v : Int32) {m : Nat} (h0 : 0 < m) (h5 : m ≤ 5) : ∃ j, j < m ∧ ((v - v / nI m * nI m) + nI m) - ((v - v / nI m * nI m) + nI m) / nI m * nI m = nI j := by
  have e := rem_toInt v (nI m)
  rw [nI_toInt (by omega)] at e
  have b := tmod_bounds (a := v.toInt) (M := (m : Int)) (by omega)
  have e2 : (v - v / nI m * nI m) + nI m = nI (v.toInt.tmod (m : Int) + m).toNat := by
    apply Int32.toInt_inj.mp
    rw [Int32.toInt_add, e, nI_toInt (by omega), nI_toInt (by omega), Int.bmod_eq_of_le (by omega) (by omega)]
    omega
  rw [e2, pk_rem (by omega) h0 (by omega)]
  exact ⟨_, Nat.mod_lt _ h0, rfl⟩
theorem di_43 (hA : sc_A D B P I kk kb kp ki) (hT : T ≤ 20) {G : gv_T} (hG : gv_ok G) (g0 : G.2.1 = 0) {b H a q s u r : Nat} {dv : Int32} (hK : sk T D B P I kn ka kh kg N ty st en par idx cm xo xt xp xl tv tt tg d b H a q s u) (hq : q ≤ 10) (hr : r < T) (hr8 : ¬ D r = 8) (hN : N ≤ 400) : ∃ (G' : gv_T) (sx : rv_SX) (sy : rv_SY), (G'.2.1 = 0 → rv_G T D B P I kn ka kh kg N ty st en par idx cm (u + tr_w q) G' sx sy)
      ∧ (∀ post : SX → Prop, post (xT, xL, xC, nI G'.1, xV, xA, G'.2.1, sx.1, sx.2.1, xS, xK, xI, kk, kb, kp, kn, ki, ka, kh, kd, kf, xb, nu, G'.2.2, vt, vn, va, ve, sx.2.2.1, sx.2.2.2.1, sx.2.2.2.2.1, sx.2.2.2.2.2, xd, xm, xz, xu, xe, xc, xf) → (wX_giveDefault_43 post dv (nI r) xT xL xC (nI G.1) xV xA G.2.1 (nI d) (nI q) xS xK xI kk kb kp kn ki ka kh kd kf xb nu G.2.2 vt vn va ve xo xt xp xl xd xm xz xu xe xc xf))
      ∧ (∀ post : SY → Prop, post (xT, xL, yW, xC, nI G'.1, yV, yD, sy.1, yA, G'.2.1, sy.2.1, kk, kb, kp, kf, kn, ki, ka, kg, kh, yb, yw, nu, G'.2.2, yt, ys, yc, yl, yn, yv, yo, ym, yf, sy.2.2.1, sy.2.2.2.1, sy.2.2.2.2, yp, yh) → (wpY_byDefault post (xT, xL, yW, xC, nI G.1, yV, yD, nI q, yA, G.2.1, nI b, kk, kb, kp, kf, kn, ki, ka, kg, kh, yb, yw, nu, G.2.2, yt, ys, yc, yl, yn, yv, yo, ym, yf, tv, tt, tg, yp, yh) (nI r) dv)) := by
  have r20 : r < 20 := by omega
  have h9 := sc_k9 hA r
  have h5 := sc_p5 hA r
  have vr : vp_in (nI r) 20 := vp_in_nI r20 (by decide)
  have cr : (nI r).toNatClampNeg = r := nI_clamp (by omega)
  have hw7 := tr_w7 hq
  obtain ⟨bd1, bd2, bd3, bd4⟩ := sk_bd (sc_p5 hA) _ _ _ _ _ _ _ hK
  have keep : ∀ G' : gv_T, G'.1 ≤ 150 → rv_G T D B P I kn ka kh kg N ty st en par idx cm (u + tr_w q) G' (nI d, nI q, xo, xt, xp, xl) (nI q, nI b, tv, tt, tg) := fun G' h => ⟨h, d, b, H, a, q, s, u, hK, hq, by omega, rfl, rfl, rfl, rfl⟩
  have PX : ∀ {Q : Prop}, (∀ c : Nat, D r = c → ∀ k_4 : Int32, k_4 = nI c → Q) → Q := fun h => h (D r) rfl _ rfl
  by_cases e0 : D r = 0 ∨ D r = 7
  · have hk := gv_k hG 0
    refine ⟨gv G 0, (nI d, nI q, xo, xt, xp, xl), (nI q, nI b, tv, tt, tg), fun _ => keep _ hk.1, fun post k => And.intro vr ?_, fun post k => And.intro vr ?_⟩
    · have J : (wX_giveDefault_104 post xT xL xC (nI G.1) xV xA G.2.1 (nI d) (nI q) xS xK xI kk kb kp kn ki ka kh kd kf xb nu G.2.2 vt vn va ve xo xt xp xl xd xm xz xu xe xc xf) := by
        unfold wX_giveDefault_104
        exact gx_give hG k
      rcases e0 with e | e
      · exact nm_r (e' := nI 0) (bg_ck hA r20 e) (br_f (by decide) (br_f (by decide) (br_t rfl J)))
      · exact nm_r (e' := nI 7) (bg_ck hA r20 e) (br_f (by decide) (br_f (by decide) (br_f (by decide) (br_f (by decide) (br_f (by decide) (br_f (by decide) (br_f (by decide) (br_f (by decide) (br_f (by decide) (br_t rfl J))))))))))
    · have J : (wY_byDefault_56 post xT xL yW xC (nI G.1) yV yD (nI q) yA G.2.1 (nI b) kk kb kp kf kn ki ka kg kh yb yw nu G.2.2 yt ys yc yl yn yv yo ym yf tv tt tg yp yh) := by
        unfold wY_byDefault_56
        exact gy_out hG k
      rcases e0 with e | e
      · exact nm_r (e' := nI 0) (bg_ck hA r20 e) (br_f (by decide) (br_f (by decide) (br_t rfl J)))
      · exact nm_r (e' := nI 7) (bg_ck hA r20 e) (br_f (by decide) (br_f (by decide) (br_f (by decide) (br_f (by decide) (br_f (by decide) (br_f (by decide) (br_f (by decide) (br_f (by decide) (br_f (by decide) (br_t rfl J))))))))))
  by_cases e1 : D r = 1
  · have hk := gv_k hG (dv &&& 1).toInt64
    refine ⟨gv G (dv &&& 1).toInt64, (nI d, nI q, xo, xt, xp, xl), (nI q, nI b, tv, tt, tg), fun _ => keep _ hk.1, fun post k => And.intro vr (nm_r (e' := nI 1) (bg_ck hA r20 e1) (br_f (by decide) (br_f (by decide) (br_f (by decide) (br_t rfl (gx_give hG k)))))), fun post k => And.intro vr (nm_r (e' := nI 1) (bg_ck hA r20 e1) (br_f (by decide) (br_f (by decide) (br_f (by decide) (br_t rfl (gy_out hG k))))))⟩
  by_cases e2 : D r = 2 ∨ D r = 3
  · have hk := gv_k hG dv.toInt64
    refine ⟨gv G dv.toInt64, (nI d, nI q, xo, xt, xp, xl), (nI q, nI b, tv, tt, tg), fun _ => keep _ hk.1, fun post k => And.intro vr ?_, fun post k => And.intro vr ?_⟩
    · have J : (wX_giveDefault_240 post dv xT xL xC (nI G.1) xV xA G.2.1 (nI d) (nI q) xS xK xI kk kb kp kn ki ka kh kd kf xb nu G.2.2 vt vn va ve xo xt xp xl xd xm xz xu xe xc xf) := by
        unfold wX_giveDefault_240
        exact gx_give hG k
      rcases e2 with e | e
      · exact nm_r (e' := nI 2) (bg_ck hA r20 e) (br_f (by decide) (br_f (by decide) (br_f (by decide) (br_f (by decide) (br_t rfl J)))))
      · exact nm_r (e' := nI 3) (bg_ck hA r20 e) (br_f (by decide) (br_f (by decide) (br_f (by decide) (br_f (by decide) (br_f (by decide) (br_t rfl J))))))
    · have J : (wY_byDefault_75 post dv xT xL yW xC (nI G.1) yV yD (nI q) yA G.2.1 (nI b) kk kb kp kf kn ki ka kg kh yb yw nu G.2.2 yt ys yc yl yn yv yo ym yf tv tt tg yp yh) := by
        unfold wY_byDefault_75
        exact gy_out hG k
      rcases e2 with e | e
      · exact nm_r (e' := nI 2) (bg_ck hA r20 e) (br_f (by decide) (br_f (by decide) (br_f (by decide) (br_f (by decide) (br_t rfl J)))))
      · exact nm_r (e' := nI 3) (bg_ck hA r20 e) (br_f (by decide) (br_f (by decide) (br_f (by decide) (br_f (by decide) (br_f (by decide) (br_t rfl J))))))
  by_cases e4 : D r = 4
  · have hk1 := gv_k hG 1
    have hk := gv_k hk1 (dv &&& 255).toInt64
    exact ⟨gv (gv G 1) (dv &&& 255).toInt64, (nI d, nI q, xo, xt, xp, xl), (nI q, nI b, tv, tt, tg), fun _ => keep _ hk.1, fun post k => And.intro vr (nm_r (e' := nI 4) (bg_ck hA r20 e4) (br_f (by decide) (br_f (by decide) (br_f (by decide) (br_f (by decide) (br_f (by decide) (br_f (by decide) (br_t rfl (gx_give hG (gx_give hk1 k)))))))))), fun post k => And.intro vr (nm_r (e' := nI 4) (bg_ck hA r20 e4) (br_f (by decide) (br_f (by decide) (br_f (by decide) (br_f (by decide) (br_f (by decide) (br_f (by decide) (br_t rfl (gy_out hG (gy_out hk1 k))))))))))⟩
  by_cases e5 : D r = 5
  · by_cases p0 : P r = 0
    · have pe : kp (nI r).toNatClampNeg = 0 := by rw [cr, sc_p hA, p0]; rfl
      refine ⟨(G.1, -6, G.2.2), (nI d, nI q, xo, xt, xp, xl), (nI q, nI b, tv, tt, tg), fun h => absurd h (by show ¬ (-6 : Int32) = 0; decide), fun post k => And.intro vr (nm_r (e' := nI 5) (bg_ck hA r20 e5) (br_f (by decide) (br_f (by decide) (br_f (by decide) (br_f (by decide) (br_f (by decide) (br_f (by decide) (br_f (by decide) (br_t rfl ⟨vr, br_t pe ?_⟩))))))))), fun post k => And.intro vr (nm_r (e' := nI 5) (bg_ck hA r20 e5) (br_f (by decide) (br_f (by decide) (br_f (by decide) (br_f (by decide) (br_f (by decide) (br_f (by decide) (br_f (by decide) (br_t rfl ⟨vr, br_t pe k⟩)))))))))⟩
      rw [g0]
      exact xf_fail k
    · have pe : ¬ kp (nI r).toNatClampNeg = 0 := by rw [cr, sc_p hA]; exact fun h => p0 ((ba_e0 (by omega)).mp h)
      obtain ⟨j, j1, j2⟩ := di_ix dv (m := P r) (by omega) h5
      have v5 : vp_in (nI (5 * r + j)) 100 := vp_in_nI (by omega) (by decide)
      have c5 : (nI (5 * r + j)).toNatClampNeg = 5 * r + j := nI_clamp (by omega)
      have hk := gv_k hG (kn (5 * r + j)).toInt64
      refine ⟨gv G (kn (5 * r + j)).toInt64, (nI d, nI q, xo, xt, xp, xl), (nI q, nI b, tv, tt, tg), fun _ => keep _ hk.1, fun post k => And.intro vr (nm_r (e' := nI 5) (bg_ck hA r20 e5) (br_f (by decide) (br_f (by decide) (br_f (by decide) (br_f (by decide) (br_f (by decide) (br_f (by decide) (br_f (by decide) (br_t rfl ⟨vr, br_f pe ⟨vr, pe, vr, vr, pe, ?_⟩⟩))))))))), fun post k => And.intro vr (nm_r (e' := nI 5) (bg_ck hA r20 e5) (br_f (by decide) (br_f (by decide) (br_f (by decide) (br_f (by decide) (br_f (by decide) (br_f (by decide) (br_f (by decide) (br_t rfl ⟨vr, br_f pe ⟨vr, pe, vr, vr, pe, ?_⟩⟩)))))))))⟩
      · rw [cr, sc_p hA, j2, ba_5, nI_add, c5]
        exact ⟨v5, gx_give hG k⟩
      · rw [cr, sc_p hA, j2, ba_5, nI_add, c5]
        exact ⟨v5, gy_out hG k⟩
  by_cases e6 : D r = 6
  · have hk := gv_lk (fun _ => (dv &&& 255).toInt64) (B r) 0 _ hG
    exact ⟨gv_l (fun _ => (dv &&& 255).toInt64) (B r) 0 G, (nI d, nI q, xo, xt, xp, xl), (nI q, nI b, tv, tt, tg), fun _ => keep _ hk.1, fun post k => And.intro vr (nm_r (e' := nI 6) (bg_ck hA r20 e6) (br_f (by decide) (br_f (by decide) (br_f (by decide) (br_f (by decide) (br_f (by decide) (br_f (by decide) (br_f (by decide) (br_f (by decide) (br_t rfl (Exists.intro (B r + 1) (gx_201 hA r20 (B r) 0 _ G (by omega) (by omega) hG k)))))))))))), fun post k => And.intro vr (nm_r (e' := nI 6) (bg_ck hA r20 e6) (br_f (by decide) (br_f (by decide) (br_f (by decide) (br_f (by decide) (br_f (by decide) (br_f (by decide) (br_f (by decide) (br_f (by decide) (br_t rfl (Exists.intro (B r + 1) (gy_161 hA r20 (B r) 0 _ G (by omega) (by omega) hG k))))))))))))⟩
  have e9 : D r = 9 := by omega
  obtain ⟨F, hF⟩ : ∃ F : Int32, F = (if q = 10 then -5 else 0) := ⟨_, rfl⟩
  obtain ⟨tv', tt', tg', h1, h2, h3⟩ := pu_243 (xT := xT) (xL := xL) (yW := yW) (xC := xC) (xG := nI G.1) (yV := yV) (yD := yD) (yR := nI q + 1) (yA := yA) (yF := F) (kf := kf) (kn := kn) (ka := ka) (kg := kg) (kh := kh) (yb := yb) (yw := yw) (nu := nu) (rs := G.2.2) (yt := yt) (ys := ys) (yc := yc) (yl := yl) (yn := yn) (yv := yv) (yo := yo) (ym := ym) (yf := yf) (yp := yp) (yh := yh) hA (u := r) (b := b) r20 (by omega) (P r) (P r + 1) (upd tv b (-2)) (upd tt b 0) (upd tg b 0) (by omega) (by omega)
  rw [Nat.sub_self] at h1 h3
  have Y : ∀ post : SY → Prop, post (xT, xL, yW, xC, nI G.1, yV, yD, nI q + 1, yA, F, nI (b + 1 + P r), kk, kb, kp, kf, kn, ki, ka, kg, kh, yb, yw, nu, G.2.2, yt, ys, yc, yl, yn, yv, yo, ym, yf, tv', tt', tg', yp, yh) → (wpY_byDefault post (xT, xL, yW, xC, nI G.1, yV, yD, nI q, yA, G.2.1, nI b, kk, kb, kp, kf, kn, ki, ka, kg, kh, yb, yw, nu, G.2.2, yt, ys, yc, yl, yn, yv, yo, ym, yf, tv, tt, tg, yp, yh) (nI r) dv) := by
    intro post k
    refine And.intro vr (nm_r (e' := nI 9) (bg_ck hA r20 e9) (br_f (by decide) (br_t (by decide) ?_)))
    have J : vp_in (nI r) 20 ∧ (∀ x3_131 : Int32, x3_131 = kp (nI r).toNatClampNeg - 1 → (∃ n243 : Nat, (wY_byDefault_243 post (nI r) n243 x3_131 xT xL yW xC (nI G.1) yV yD (nI q + 1) yA F (nI (b + 1)) kk kb kp kf kn ki ka kg kh yb yw nu G.2.2 yt ys yc yl yn yv yo ym yf (upd tv b (-2)) (upd tt b 0) (upd tg b 0) yp yh))) :=
      ⟨vr, nm_r (e' := nI (P r) - 1) (by rw [cr, sc_p hA]) (Exists.intro (P r + 1) (h3 _ k))⟩
    rw [g0]
    by_cases z : q = 10
    · rw [if_pos z] at hF
      subst z
      rw [hF] at J
      exact yf_enter_d (by omega) J
    · rw [if_neg z] at hF
      rw [hF] at J
      exact yf_enter (by omega) (fun e => z ((ba_e10 (by omega)).mp e.2)) J
  by_cases z : q = 10
  · rw [if_pos z] at hF
    subst hF
    refine ⟨(G.1, -5, G.2.2), (nI d, nI q, xo, xt, xp, xl), (nI q + 1, nI (b + 1 + P r), tv', tt', tg'), fun h => absurd h (by show ¬ (-5 : Int32) = 0; decide), fun post k => ?_, Y⟩
    refine And.intro vr (nm_r (e' := nI 9) (bg_ck hA r20 e9) (br_f (by decide) (br_f (by decide) (br_f (by decide) (br_f (by decide) (br_f (by decide) (br_f (by decide) (br_f (by decide) (br_f (by decide) (br_f (by decide) (br_f (by decide) (br_f (by decide) (br_t rfl ?_)))))))))))))
    rw [g0]
    subst z
    exact xf_enter_d k
  · rw [if_neg z] at hF
    subst hF
    refine ⟨(G.1, 0, G.2.2), (nI (d + 1), nI (q + 1), upd xo d (-1), upd xt d (nI r), upd xp d 0, upd xl d 0), (nI q + 1, nI (b + 1 + P r), tv', tt', tg'), fun _ => ?_, fun post k => ?_, Y⟩
    · refine ⟨hG.1, d + 1, b + 1 + P r, H, a, q + 1, s, u + (P r - 0) * tr_w (q + 1) + 1, ?_, by omega, ?_, rfl, rfl, nI_1 q, rfl⟩
      · refine ⟨b, H, a, q, s, u, r, sk_fr _ _ _ _ _ _ _ hK (fun j hj => ⟨ba_un (by omega), ba_un (by omega), ba_un (by omega), ba_un (by omega)⟩) (fun j hj => ?_), hr, ba_us, Or.inr ⟨e9, 0, ba_us, by omega, ?_, by omega, rfl, rfl, rfl, rfl, Or.inl ⟨ba_us, fun j _ hj => h2 j hj, rfl⟩⟩⟩
        · obtain ⟨e1, e2, e3⟩ := h1 j (by omega)
          dsimp only
          rw [e1, e2, e3, ba_un (by omega), ba_un (by omega), ba_un (by omega)]
          exact ⟨rfl, rfl, rfl⟩
        · have := (h1 b (by omega)).1
          dsimp only
          rw [this, ba_us]
      · have e := tr_ws (r := q) (by omega)
        have := vi_lt7 (W := tr_w (q + 1)) (x := 1) (m := P r - 0) (tr_w7 (by omega)) (by omega) (by omega)
        rw [Nat.mul_one, Nat.mul_one] at this
        rw [e]; omega
    · refine And.intro vr (nm_r (e' := nI 9) (bg_ck hA r20 e9) (br_f (by decide) (br_f (by decide) (br_f (by decide) (br_f (by decide) (br_f (by decide) (br_f (by decide) (br_f (by decide) (br_f (by decide) (br_f (by decide) (br_f (by decide) (br_f (by decide) (br_t rfl ?_)))))))))))))
      have nq : ¬ nI q = 10 := fun e => z ((ba_e10 (by omega)).mp e)
      have k' : post (xT, xL, xC, nI G.1, xV, xA, 0, nI (d + 1), nI q + 1, xS, xK, xI, kk, kb, kp, kn, ki, ka, kh, kd, kf, xb, nu, G.2.2, vt, vn, va, ve, upd xo d (-1), upd xt d (nI r), upd xp d 0, upd xl d 0, xd, xm, xz, xu, xe, xc, xf) := by
        rw [nI_1]; exact k
      rw [g0]
      exact xf_enter nq (by omega) ba_sm r20 k'
end
end
section
section
variable {xT xL xC xG xV xA xF xD xN xS xK xI yW yV yD yR yA yF yO : Int32} {kk kb kp kn ki ka kh kd kf xb vt va ve xo xt xp xl xd xm xz xu xe xc xf kg yb yw yt ys yc yl yn yo ym yf tv tt tg yp yh : Nat → Int32} {nu rs vn yv : Nat → Int64}
variable {D B P I bb : Nat → Nat} {T L N d p t : Nat} {ty st en mb par idx cm lc op lf : Nat → Nat}
/-- X goes on after the row is full: nothing is given any more -/
theorem di_43f (hA : sc_A D B P I kk kb kp ki) {G : gv_T} (hG : gv_ok G) (g1 : ¬ G.2.1 = 0) {r : Nat} {dv : Int32} (hr : r < 20) (hd : d < 400) :
    ∃ sx : rv_SX, ∀ post : SX → Prop, post (xT, xL, xC, nI G.1, xV, xA, G.2.1, sx.1, sx.2.1, xS, xK, xI, kk, kb, kp, kn, ki, ka, kh, kd, kf, xb, nu, G.2.2, vt, vn, va, ve, sx.2.2.1, sx.2.2.2.1, sx.2.2.2.2.1, sx.2.2.2.2.2, xd, xm, xz, xu, xe, xc, xf) → (wX_giveDefault_43 post dv (nI r) xT xL xC (nI G.1) xV xA G.2.1 (nI d) xN xS xK xI kk kb kp kn ki ka kh kd kf xb nu G.2.2 vt vn va ve xo xt xp xl xd xm xz xu xe xc xf) := by
  have h9 := sc_k9 hA r
  have h5 := sc_p5 hA r
  have vr : vp_in (nI r) 20 := vp_in_nI hr (by decide)
  have cr : (nI r).toNatClampNeg = r := nI_clamp (by omega)
  have gi : ∀ (v : Int64) {post : SX → Prop}, post (xT, xL, xC, nI G.1, xV, xA, G.2.1, nI d, xN, xS, xK, xI, kk, kb, kp, kn, ki, ka, kh, kd, kf, xb, nu, G.2.2, vt, vn, va, ve, xo, xt, xp, xl, xd, xm, xz, xu, xe, xc, xf) → (wpX_give post (xT, xL, xC, nI G.1, xV, xA, G.2.1, nI d, xN, xS, xK, xI, kk, kb, kp, kn, ki, ka, kh, kd, kf, xb, nu, G.2.2, vt, vn, va, ve, xo, xt, xp, xl, xd, xm, xz, xu, xe, xc, xf) v) := fun v post k => gx_give hG (by rw [gv_id g1]; exact k)
  by_cases e9 : D r = 9
  · by_cases z : xN = 10
    · refine ⟨(nI d, xN, xo, xt, xp, xl), fun post k => And.intro vr (nm_r (e' := nI 9) (bg_ck hA hr e9) (br_f (by decide) (br_f (by decide) (br_f (by decide) (br_f (by decide) (br_f (by decide) (br_f (by decide) (br_f (by decide) (br_f (by decide) (br_f (by decide) (br_f (by decide) (br_f (by decide) (br_t rfl (br_t z (xf_fail' g1 k)))))))))))))))⟩
    · exact ⟨(nI (d + 1), xN + 1, upd xo d (-1), upd xt d (nI r), upd xp d 0, upd xl d 0), fun post k => And.intro vr (nm_r (e' := nI 9) (bg_ck hA hr e9) (br_f (by decide) (br_f (by decide) (br_f (by decide) (br_f (by decide) (br_f (by decide) (br_f (by decide) (br_f (by decide) (br_f (by decide) (br_f (by decide) (br_f (by decide) (br_f (by decide) (br_t rfl (xf_enter z hd ba_sm hr k))))))))))))))⟩
  · refine ⟨(nI d, xN, xo, xt, xp, xl), fun post k => And.intro vr ?_⟩
    have J104 : (wX_giveDefault_104 post xT xL xC (nI G.1) xV xA G.2.1 (nI d) xN xS xK xI kk kb kp kn ki ka kh kd kf xb nu G.2.2 vt vn va ve xo xt xp xl xd xm xz xu xe xc xf) := by
      unfold wX_giveDefault_104
      exact gi _ k
    have J240 : (wX_giveDefault_240 post dv xT xL xC (nI G.1) xV xA G.2.1 (nI d) xN xS xK xI kk kb kp kn ki ka kh kd kf xb nu G.2.2 vt vn va ve xo xt xp xl xd xm xz xu xe xc xf) := by
      unfold wX_giveDefault_240
      exact gi _ k
    refine nm_r (e' := nI (D r)) (bg_ck hA hr rfl) (br_f (nI_pos (by omega)) (br_f (fun e => by have := (ba_gt9 (by omega)).mp e; omega) ?_))
    refine br_c (fun _ => J104) (fun _ => br_c (fun _ => gi _ k) (fun _ => br_c (fun _ => J240) (fun _ => br_c (fun _ => J240) (fun _ => br_c (fun _ => gi _ (gi _ k)) (fun _ => br_c (fun _ => ⟨vr, ?_⟩) (fun _ => br_c (fun _ => Exists.intro (B r + 1) (gx_201 hA hr (B r) 0 _ G (by omega) (by omega) hG (by rw [gv_li g1]; exact k))) (fun _ => br_c (fun _ => J104) (fun _ => br_c (fun _ => J240) (fun _ => br_c (fun e => absurd ((ba_e9 (by omega)).mp e) e9) (fun _ => trivial))))))))))
    by_cases p0 : P r = 0
    · exact br_t (by rw [cr, sc_p hA, p0]; rfl) (xf_fail' g1 k)
    · have pe : ¬ kp (nI r).toNatClampNeg = 0 := by rw [cr, sc_p hA]; exact fun h => p0 ((ba_e0 (by omega)).mp h)
      obtain ⟨j, j1, j2⟩ := di_ix dv (m := P r) (by omega) h5
      refine br_f pe ⟨vr, pe, vr, vr, pe, ?_⟩
      rw [cr, sc_p hA, j2, ba_5, nI_add]
      exact ⟨vp_in_nI (by omega) (by decide), gi _ k⟩
/-- a default, both sides; Y by its loop -/
theorem di_item (hA : sc_A D B P I kk kb kp ki) (hS : sc_T T D B P I kn kh kd kg) {G : gv_T} (hG : gv_ok G) (g0 : G.2.1 = 0) {b H a q s u r : Nat} {dv : Int32} (hK : sk T D B P I kn ka kh kg N ty st en par idx cm xo xt xp xl tv tt tg d b H a q s u) (hq : q ≤ 10) (hr : r < T) (hN : N ≤ 400) :
    ∃ (G' : gv_T) (sx : rv_SX) (sy : rv_SY), (G'.2.1 = 0 → rv_G T D B P I kn ka kh kg N ty st en par idx cm (u + tr_w q) G' sx sy)
      ∧ (∀ post : SX → Prop, post (xT, xL, xC, nI G'.1, xV, xA, G'.2.1, sx.1, sx.2.1, xS, xK, xI, kk, kb, kp, kn, ki, ka, kh, kd, kf, xb, nu, G'.2.2, vt, vn, va, ve, sx.2.2.1, sx.2.2.2.1, sx.2.2.2.2.1, sx.2.2.2.2.2, xd, xm, xz, xu, xe, xc, xf) → (wpX_giveDefault post (xT, xL, xC, nI G.1, xV, xA, G.2.1, nI d, nI q, xS, xK, xI, kk, kb, kp, kn, ki, ka, kh, kd, kf, xb, nu, G.2.2, vt, vn, va, ve, xo, xt, xp, xl, xd, xm, xz, xu, xe, xc, xf) (nI r) dv))
      ∧ (∀ post : SY → Prop, (∃ n, (wY_resolve_17 post n xT xL yW xC (nI G'.1) yV yD sy.1 yA G'.2.1 sy.2.1 kk kb kp kf kn ki ka kg kh yb yw nu G'.2.2 yt ys yc yl yn yv yo ym yf sy.2.2.1 sy.2.2.2.1 sy.2.2.2.2 yp yh)) → ∃ n, (wpY_byDefault (fun u => match u with | (xT, xL, yW, xC, xG, yV, yD, yR, yA, yF, yO, kk, kb, kp, kf, kn, ki, ka, kg, kh, yb, yw, nu, rs, yt, ys, yc, yl, yn, yv, yo, ym, yf, tv, tt, tg, yp, yh) => (wY_resolve_17 post n xT xL yW xC xG yV yD yR yA yF yO kk kb kp kf kn ki ka kg kh yb yw nu rs yt ys yc yl yn yv yo ym yf tv tt tg yp yh)) (xT, xL, yW, xC, nI G.1, yV, yD, nI q, yA, G.2.1, nI b, kk, kb, kp, kf, kn, ki, ka, kg, kh, yb, yw, nu, G.2.2, yt, ys, yc, yl, yn, yv, yo, ym, yf, tv, tt, tg, yp, yh) (nI r) dv)) := by
  have hT20 := sc_T20 hS
  have r20 : r < 20 := by omega
  have h9 := sc_k9 hA r
  have h5 := sc_p5 hA r
  have vr : vp_in (nI r) 20 := vp_in_nI r20 (by decide)
  have cr : (nI r).toNatClampNeg = r := nI_clamp (by omega)
  obtain ⟨bd1, bd2, bd3, bd4⟩ := sk_bd (sc_p5 hA) _ _ _ _ _ _ _ hK
  by_cases e8 : D r = 8
  · have k8 : kk (nI r).toNatClampNeg = 8 := by rw [bg_ck hA r20 e8]; rfl
    by_cases p0 : P r = 0
    · have pe : kp (nI r).toNatClampNeg = 0 := by rw [cr, sc_p hA, p0]; rfl
      refine ⟨(G.1, -6, G.2.2), (nI d, nI q, xo, xt, xp, xl), (nI q, nI b, tv, tt, tg), fun h => absurd h (by show ¬ (-6 : Int32) = 0; decide), fun post k => And.intro vr (br_t k8 ⟨vr, br_t pe ?_⟩), fun post k => ?_⟩
      · rw [g0]
        exact xf_fail k
      · obtain ⟨n, hn⟩ := k
        exact ⟨n, And.intro vr (nm_r (e' := nI 8) (bg_ck hA r20 e8) (br_f (by decide) (br_f (by decide) (br_f (by decide) (br_f (by decide) (br_f (by decide) (br_f (by decide) (br_f (by decide) (br_f (by decide) (br_f (by decide) (br_f (by decide) (br_t rfl ⟨vr, br_t pe hn⟩))))))))))))⟩
    · have pe : ¬ kp (nI r).toNatClampNeg = 0 := by rw [cr, sc_p hA]; exact fun h => p0 ((ba_e0 (by omega)).mp h)
      have u8 : ¬ D (I (5 * r)) = 8 := sc_u (k := 0) hS e8 (by omega)
      have uT : I (5 * r) < T := sc_iT hS _ (by omega)
      have hG1 := gv_k hG 0
      have v5 : vp_in (nI (5 * r)) 100 := vp_in_nI (by omega) (by decide)
      have c5 : (nI (5 * r)).toNatClampNeg = 5 * r := nI_clamp (by omega)
      have X : ∀ post : SX → Prop, (wX_giveDefault_43 post dv (nI (I (5 * r))) xT xL xC (nI (gv G 0).1) xV xA ((gv G 0).2.1) (nI d) (nI q) xS xK xI kk kb kp kn ki ka kh kd kf xb nu ((gv G 0).2.2) vt vn va ve xo xt xp xl xd xm xz xu xe xc xf) → (wpX_giveDefault post (xT, xL, xC, nI G.1, xV, xA, G.2.1, nI d, nI q, xS, xK, xI, kk, kb, kp, kn, ki, ka, kh, kd, kf, xb, nu, G.2.2, vt, vn, va, ve, xo, xt, xp, xl, xd, xm, xz, xu, xe, xc, xf) (nI r) dv) := by
        intro post k
        refine And.intro vr (br_t k8 ⟨vr, br_f pe (gx_give hG ?_)⟩)
        show vp_in (5 * nI r) 100 ∧ _
        rw [ba_5]
        exact ⟨v5, nm_r (e' := nI (I (5 * r))) (by rw [c5, sc_i hA]) k⟩
      have Y : ∀ (post : SY → Prop) (n : Nat), (wY_resolve_17 post n xT xL yW xC (nI (gv G 0).1) yV yD (nI q) yA ((gv G 0).2.1) (nI (b + 1)) kk kb kp kf kn ki ka kg kh yb yw nu ((gv G 0).2.2) yt ys yc yl yn yv yo ym yf (upd tv b (-1)) (upd tt b (nI (I (5 * r)))) (upd tg b dv) yp yh) → (wpY_byDefault (fun u => match u with | (xT, xL, yW, xC, xG, yV, yD, yR, yA, yF, yO, kk, kb, kp, kf, kn, ki, ka, kg, kh, yb, yw, nu, rs, yt, ys, yc, yl, yn, yv, yo, ym, yf, tv, tt, tg, yp, yh) => (wY_resolve_17 post n xT xL yW xC xG yV yD yR yA yF yO kk kb kp kf kn ki ka kg kh yb yw nu rs yt ys yc yl yn yv yo ym yf tv tt tg yp yh)) (xT, xL, yW, xC, nI G.1, yV, yD, nI q, yA, G.2.1, nI b, kk, kb, kp, kf, kn, ki, ka, kg, kh, yb, yw, nu, G.2.2, yt, ys, yc, yl, yn, yv, yo, ym, yf, tv, tt, tg, yp, yh) (nI r) dv) := by
        intro post n k
        refine And.intro vr (nm_r (e' := nI 8) (bg_ck hA r20 e8) (br_f (by decide) (br_f (by decide) (br_f (by decide) (br_f (by decide) (br_f (by decide) (br_f (by decide) (br_f (by decide) (br_f (by decide) (br_f (by decide) (br_f (by decide) (br_t rfl ⟨vr, br_f pe (gy_out hG ?_)⟩))))))))))))
        show vp_in (5 * nI r) 100 ∧ _
        rw [ba_5, c5, sc_i hA]
        exact ⟨v5, yf_later (by omega) k⟩
      by_cases g1 : (gv G 0).2.1 = 0
      · obtain ⟨G', sx, sy, h1, hX, hY⟩ := di_43 (xT := xT) (xL := xL) (xC := xC) (xV := xV) (xA := xA) (xS := xS) (xK := xK) (xI := xI) (kd := kd) (kf := kf) (xb := xb) (yb := yb) (nu := nu) (vt := vt) (vn := vn) (va := va) (ve := ve) (xd := xd) (xm := xm) (xz := xz) (xu := xu) (xe := xe) (xc := xc) (xf := xf) (yW := yW) (yV := yV) (yD := yD) (yA := yA) (yw := yw) (yt := yt) (ys := ys) (yc := yc) (yl := yl) (yn := yn) (yv := yv) (yo := yo) (ym := ym) (yf := yf) (yp := yp) (yh := yh) (dv := dv) hA hT20 hG1 g1 (sk_fr (tv' := upd tv b (-1)) (tt' := upd tt b (nI (I (5 * r)))) (tg' := upd tg b dv) _ _ _ _ _ _ _ hK (fun j _ => ⟨rfl, rfl, rfl, rfl⟩) (fun j hj => ⟨ba_un (by omega), ba_un (by omega), ba_un (by omega)⟩)) hq uT u8 hN
        refine ⟨G', sx, sy, h1, fun post k => X post (hX post k), fun post k => ?_⟩
        obtain ⟨n, hn⟩ := k
        refine ⟨n + 1, Y post (n + 1) (br_f (fun e => by have := (ba_le0 (by omega)).mp e; omega) (br_t g1 (nm_r (nI_pred b) ⟨vp_in_nI (by omega) (by decide), nm_r (e' := -1) (by rw [nI_clamp (by omega), ba_us]) (br_f (by decide) (br_f (by decide) (br_t rfl ⟨vp_in_nI (by omega) (by decide), vp_in_nI (by omega) (by decide), ?_⟩)))⟩)))⟩
        rw [nI_clamp (by omega), ba_us, ba_us]
        exact hY _ hn
      · obtain ⟨sx, hX⟩ := di_43f (G := gv G 0) (r := I (5 * r)) (dv := dv) (d := d) (xN := nI q) (xo := xo) (xt := xt) (xp := xp) (xl := xl) (kn := kn) (ka := ka) (kh := kh) (xT := xT) (xL := xL) (xC := xC) (xV := xV) (xA := xA) (xS := xS) (xK := xK) (xI := xI) (kd := kd) (kf := kf) (xb := xb) (nu := nu) (vt := vt) (vn := vn) (va := va) (ve := ve) (xd := xd) (xm := xm) (xz := xz) (xu := xu) (xe := xe) (xc := xc) (xf := xf) hA hG1 g1 (by omega) (by omega)
        refine ⟨gv G 0, sx, (nI q, nI (b + 1), upd tv b (-1), upd tt b (nI (I (5 * r))), upd tg b dv), fun h => absurd h g1, fun post k => X post (hX post k), fun post k => ?_⟩
        obtain ⟨n, hn⟩ := k
        exact ⟨n, Y post n hn⟩
  · obtain ⟨G', sx, sy, h1, hX, hY⟩ := di_43 (xT := xT) (xL := xL) (xC := xC) (xV := xV) (xA := xA) (xS := xS) (xK := xK) (xI := xI) (kd := kd) (kf := kf) (xb := xb) (yb := yb) (nu := nu) (vt := vt) (vn := vn) (va := va) (ve := ve) (xd := xd) (xm := xm) (xz := xz) (xu := xu) (xe := xe) (xc := xc) (xf := xf) (yW := yW) (yV := yV) (yD := yD) (yA := yA) (yw := yw) (yt := yt) (ys := ys) (yc := yc) (yl := yl) (yn := yn) (yv := yv) (yo := yo) (ym := ym) (yf := yf) (yp := yp) (yh := yh) (dv := dv) hA hT20 hG g0 hK hq hr e8 hN
    refine ⟨G', sx, sy, h1, fun post k => And.intro vr (br_f (by rw [bg_ck hA r20 rfl]; exact fun e => e8 ((ba_e8 (by omega)).mp e)) (hX post k)), fun post k => ?_⟩
    obtain ⟨n, hn⟩ := k
    exact ⟨n, hY _ hn⟩
/-- a plan -/
theorem xp_planned (hA : sc_A D B P I kk kb kp ki) (hT : T ≤ 20) (hz : pl_ok T P kn ka xz) {w r k : Nat} (hw : w < T) (hr : r < T) (hk : k < 5) :
    ∃ xz' : Nat → Int32, pl_ok T P kn ka xz' ∧ ∀ post : Int32 → SX → Prop, post (sc_pl P kn ka w r k) (xT, xL, xC, xG, xV, xA, xF, xD, xN, xS, xK, xI, kk, kb, kp, kn, ki, ka, kh, kd, kf, xb, nu, rs, vt, vn, va, ve, xo, xt, xp, xl, xd, xm, xz', xu, xe, xc, xf) → (wpX_planned post (xT, xL, xC, xG, xV, xA, xF, xD, xN, xS, xK, xI, kk, kb, kp, kn, ki, ka, kh, kd, kf, xb, nu, rs, vt, vn, va, ve, xo, xt, xp, xl, xd, xm, xz, xu, xe, xc, xf) (nI w) (nI r) (nI k)) := by
  have h5 := sc_p5 hA w
  have w20 : w < 20 := by omega
  have vi : vp_in (nI (100 * w + 5 * r + k)) 2000 := vp_in_nI (by omega) (by decide)
  have ci : (nI (100 * w + 5 * r + k)).toNatClampNeg = 100 * w + 5 * r + k := nI_clamp (by omega)
  have ei : 100 * nI w + 5 * nI r + nI k = nI (100 * w + 5 * r + k) := by rw [ba_100, ba_5, nI_add, nI_add]
  have v5 : vp_in (nI (5 * r + k)) 100 := vp_in_nI (by omega) (by decide)
  have c5 : (nI (5 * r + k)).toNatClampNeg = 5 * r + k := nI_clamp (by omega)
  by_cases e : xz (100 * w + 5 * r + k) = 127
  · have hb : (sc_pl P kn ka w r k).toInt8.toInt32 = sc_pl P kn ka w r k := by
      rcases sc_pl_r (P := P) (kn := kn) (ka := ka) (w := w) r k h5 with q | ⟨f, f1, f2⟩
      · rw [q]; exact ba_bm
      · rw [f2]; exact ba_b (by omega)
    refine ⟨upd xz (100 * w + 5 * r + k) (sc_pl P kn ka w r k), ?_, fun post h => ?_⟩
    · intro w' r' k' hw' hr' hk'
      by_cases q : 100 * w' + 5 * r' + k' = 100 * w + 5 * r + k
      · have e1 : w' = w := by omega
        have e2 : r' = r := by omega
        have e3 : k' = k := by omega
        rw [e1, e2, e3, ba_us]
        exact Or.inr rfl
      · rw [ba_un q]
        exact hz w' r' k' hw' hr' hk'
    · refine nm_r ei (And.intro vi (br_t (by rw [ci]; exact e) ?_))
      rw [ba_5, nI_add, c5]
      have J : ∀ x : Int32, x = sc_pl P kn ka w r k → (wX_planned_72 post (nI (100 * w + 5 * r + k)) x xT xL xC xG xV xA xF xD xN xS xK xI kk kb kp kn ki ka kh kd kf xb nu rs vt vn va ve xo xt xp xl xd xm xz xu xe xc xf) := by
        intro x hx
        refine And.intro vi (nm_r (e' := upd xz (100 * w + 5 * r + k) (sc_pl P kn ka w r k)) (by rw [ci, hx, pk_vb, hb]) ⟨vi, ?_⟩)
        rw [ci, ba_us]
        exact h
      refine ⟨v5, xn_named hA w20 ⟨v5, nm_e ?_⟩⟩
      by_cases z1 : 0 ≤ sc_find P kn w (kn (5 * r + k))
      · exact br_t z1 (J _ (by unfold sc_pl; rw [if_pos z1]))
      · refine br_f z1 ?_
        by_cases z2 : ka (5 * r + k) < 0
        · exact br_t z2 (J _ (by unfold sc_pl; rw [if_neg z1, if_pos z2]))
        · exact br_f z2 (xn_named hA w20 (J _ (by unfold sc_pl; rw [if_neg z1, if_neg z2])))
  · have q := (hz w r k hw hr hk).resolve_left e
    refine ⟨xz, hz, fun post h => nm_r ei (And.intro vi (br_f (by rw [ci]; exact e) ⟨vi, ?_⟩))⟩
    rw [ci, q]
    exact h
end
end
section
section
variable {xT xL xC xG xV xA xF xD xN xS xK xI yW yV yD yR yA yF yO : Int32} {kk kb kp kn ki ka kh kd kf xb vt va ve xo xt xp xl xd xm xz xu xe xc xf kg yb yw yt ys yc yl yn yo ym yf tv tt tg yp yh : Nat → Int32} {nu rs vn yv : Nat → Int64}
variable {D B P I bb : Nat → Nat} {T L N d p t : Nat} {ty st en mb par idx cm lc op lf : Nat → Nat}
theorem yr_turn {b c n : Nat} {post : SY → Prop} (hb : b < 2000) (hx : tv b = nI c) (hc : c < 400) (h0 : yF = 0) (k : (wpY_turn (fun u => match u with | (xT, xL, yW, xC, xG, yV, yD, yR, yA, yF, yO, kk, kb, kp, kf, kn, ki, ka, kg, kh, yb, yw, nu, rs, yt, ys, yc, yl, yn, yv, yo, ym, yf, tv, tt, tg, yp, yh) => (wY_resolve_17 post n xT xL yW xC xG yV yD yR yA yF yO kk kb kp kf kn ki ka kg kh yb yw nu rs yt ys yc yl yn yv yo ym yf tv tt tg yp yh)) (xT, xL, yW, xC, xG, yV, yD, yR, yA, yF, nI b, kk, kb, kp, kf, kn, ki, ka, kg, kh, yb, yw, nu, rs, yt, ys, yc, yl, yn, yv, yo, ym, yf, tv, tt, tg, yp, yh) (nI c) (tt b))) : (wY_resolve_17 post (n + 1) xT xL yW xC xG yV yD yR yA yF (nI (b + 1)) kk kb kp kf kn ki ka kg kh yb yw nu rs yt ys yc yl yn yv yo ym yf tv tt tg yp yh) := by
  have vb : vp_in (nI b) 2000 := vp_in_nI hb (by decide)
  have cb : (nI b).toNatClampNeg = b := nI_clamp (by omega)
  refine br_f (fun e => by have := (ba_le0 (by omega)).mp e; omega) (br_t h0 (nm_r (nI_pred b) ⟨vb, nm_r (e' := nI c) (by rw [cb, hx]) (br_f (fun e => (ba_em3 (by omega)).mp e) (br_f (fun e => (ba_em2 (by omega)).mp e) (br_f (fun e => (ba_em1 (by omega)).mp e) ⟨vb, ?_⟩)))⟩))
  rw [cb]; exact k
theorem yr_def {b n : Nat} {post : SY → Prop} (hb : b < 2000) (hx : tv b = -1) (h0 : yF = 0) (k : (wpY_byDefault (fun u => match u with | (xT, xL, yW, xC, xG, yV, yD, yR, yA, yF, yO, kk, kb, kp, kf, kn, ki, ka, kg, kh, yb, yw, nu, rs, yt, ys, yc, yl, yn, yv, yo, ym, yf, tv, tt, tg, yp, yh) => (wY_resolve_17 post n xT xL yW xC xG yV yD yR yA yF yO kk kb kp kf kn ki ka kg kh yb yw nu rs yt ys yc yl yn yv yo ym yf tv tt tg yp yh)) (xT, xL, yW, xC, xG, yV, yD, yR, yA, yF, nI b, kk, kb, kp, kf, kn, ki, ka, kg, kh, yb, yw, nu, rs, yt, ys, yc, yl, yn, yv, yo, ym, yf, tv, tt, tg, yp, yh) (tt b) (tg b))) : (wY_resolve_17 post (n + 1) xT xL yW xC xG yV yD yR yA yF (nI (b + 1)) kk kb kp kf kn ki ka kg kh yb yw nu rs yt ys yc yl yn yv yo ym yf tv tt tg yp yh) := by
  have vb : vp_in (nI b) 2000 := vp_in_nI hb (by decide)
  have cb : (nI b).toNatClampNeg = b := nI_clamp (by omega)
  refine br_f (fun e => by have := (ba_le0 (by omega)).mp e; omega) (br_t h0 (nm_r (nI_pred b) ⟨vb, nm_r (e' := -1) (by rw [cb, hx]) (br_f (by decide) (br_f (by decide) (br_t rfl ⟨vb, vb, ?_⟩)))⟩))
  rw [cb]; exact k
theorem yr_end {b n : Nat} {post : SY → Prop} (hb : b < 2000) (hx : tv b = -2) (h0 : yF = 0) (k : (wY_resolve_17 post n xT xL yW xC xG yV yD (yR - 1) yA yF (nI b) kk kb kp kf kn ki ka kg kh yb yw nu rs yt ys yc yl yn yv yo ym yf tv tt tg yp yh)) : (wY_resolve_17 post (n + 1) xT xL yW xC xG yV yD yR yA yF (nI (b + 1)) kk kb kp kf kn ki ka kg kh yb yw nu rs yt ys yc yl yn yv yo ym yf tv tt tg yp yh) := by
  have vb : vp_in (nI b) 2000 := vp_in_nI hb (by decide)
  have cb : (nI b).toNatClampNeg = b := nI_clamp (by omega)
  exact br_f (fun e => by have := (ba_le0 (by omega)).mp e; omega) (br_t h0 (nm_r (nI_pred b) ⟨vb, nm_r (e' := -2) (by rw [cb, hx]) (br_f (by decide) (br_t rfl (nm_e k)))⟩))
theorem yr_mis {b n : Nat} {post : SY → Prop} (hb : b < 2000) (hx : tv b = -3) (h0 : yF = 0) (k : (wY_resolve_17 post n xT xL yW xC xG yV yD yR yA (-6) (nI b) kk kb kp kf kn ki ka kg kh yb yw nu rs yt ys yc yl yn yv yo ym yf tv tt tg yp yh)) : (wY_resolve_17 post (n + 1) xT xL yW xC xG yV yD yR yA yF (nI (b + 1)) kk kb kp kf kn ki ka kg kh yb yw nu rs yt ys yc yl yn yv yo ym yf tv tt tg yp yh) := by
  have vb : vp_in (nI b) 2000 := vp_in_nI hb (by decide)
  have cb : (nI b).toNatClampNeg = b := nI_clamp (by omega)
  exact br_f (fun e => by have := (ba_le0 (by omega)).mp e; omega) (br_t h0 (nm_r (nI_pred b) ⟨vb, nm_r (e' := -3) (by rw [cb, hx]) (br_t rfl k)⟩))
theorem xr_226 (hR : tr_ok T L D B P N ty st en mb par idx cm vt va ve yt ys yc yn vn yv) {post : SX → Prop} {x2 x3 : Int32} {g : Nat} (hg : g < 5) : ∀ (m i c n : Nat), i + m = g → m < n → 0 < c → c < N → idx c + m < cm (par c) →
    (vp_in ((5 * x2) + x3) 100 ∧ (wpX_resolve (fun u => match u with | (xT, xL, xC, xG, xV, xA, xF, xD, xN, xS, xK, xI, kk, kb, kp, kn, ki, ka, kh, kd, kf, xb, nu, rs, vt, vn, va, ve, xo, xt, xp, xl, xd, xm, xz, xu, xe, xc, xf) => (post (xT, xL, xC, xG, xV, xA, xF, xD, xN, xS, xK, xI, kk, kb, kp, kn, ki, ka, kh, kd, kf, xb, nu, rs, vt, vn, va, ve, xo, xt, xp, xl, xd, xm, xz, xu, xe, xc, xf))) (xT, xL, xC, xG, xV, xA, xF, xD, xN, xS, xK, xI, kk, kb, kp, kn, ki, ka, kh, kd, kf, xb, nu, rs, vt, vn, va, ve, xo, xt, xp, xl, xd, xm, xz, xu, xe, xc, xf) (nI (tr_ch en m c)) (ki ((5 * x2) + x3).toNatClampNeg))) → (wX_resolveOn_226 post x2 x3 (nI g) xT xL xC xG xV xA xF xD xN xS xK xI kk kb kp kn ki ka kh kd kf xb nu rs vt vn va ve xo xt xp xl xd xm xz xu xe xc xf n (nI c) (nI i)) := by
  intro m
  have N4 := hR.1.2
  induction m with
  | zero =>
    intro i c n hi hn c0 cN hc k
    obtain ⟨n, rfl⟩ : ∃ n', n = n' + 1 := ⟨n - 1, by omega⟩
    exact br_t (nI_le (by omega) (by omega)) k
  | succ m ih =>
    intro i c n hi hn c0 cN hc k
    obtain ⟨n, rfl⟩ : ∃ n', n = n' + 1 := ⟨n - 1, by omega⟩
    obtain ⟨b1, b2, b3, b4, b5, b6⟩ := tr_step hR c0 cN (by omega)
    exact br_f (nI_ge (by omega) (by omega)) ⟨vp_in_nI (by omega) (by decide), nm_r (e' := nI (en c)) (by rw [nI_clamp (by omega), b5]) (nm_r (nI_1 i) (ih (i + 1) (en c) n (by omega) (by omega) b2 b1 (by rw [b3, b4]; omega) k))⟩
theorem rs_mul {a e x n : Nat} (h1 : n ≤ x) (h2 : x ≤ e) : a * (e - x) + a * (x - n) = a * (e - n) := by
  rw [← Nat.mul_add]
  exact congrArg _ (by omega)
theorem rs_mul1 {a m : Nat} (h : 0 < m) : (m - 1) * a + a = m * a := by
  obtain ⟨k, rfl⟩ : ∃ k, m = k + 1 := ⟨m - 1, by omega⟩
  rw [Nat.add_sub_cancel, Nat.succ_mul]
/-- one step of resolving: X's, and as many of Y's loop as it takes -/
theorem rs_step (hA : sc_A D B P I kk kb kp ki) (hS : sc_T T D B P I kn kh kd kg) (hB : by_ok xb yb bb) (hL : L ≤ 100) (hR : tr_ok T L D B P N ty st en mb par idx cm vt va ve yt ys yc yn vn yv) (hz : pl_ok T P kn ka xz)
    {G : gv_T} (hg : G.1 ≤ 150) (g0 : G.2.1 = 0) {b H a q s u : Nat} (hK : sk T D B P I kn ka kh kg N ty st en par idx cm xo xt xp xl tv tt tg (d + 1) b H a q s u) (hq : q ≤ 10) :
    ∃ (G' : gv_T) (sx : rv_SX) (sy : rv_SY) (xz' : Nat → Int32), pl_ok T P kn ka xz' ∧ (G'.2.1 = 0 → rv_G T D B P I kn ka kh kg N ty st en par idx cm u G' sx sy)
      ∧ (∀ post : SX → Prop, post (xT, xL, xC, nI G'.1, xV, xA, G'.2.1, sx.1, sx.2.1, xS, xK, xI, kk, kb, kp, kn, ki, ka, kh, kd, kf, xb, nu, G'.2.2, vt, vn, va, ve, sx.2.2.1, sx.2.2.2.1, sx.2.2.2.2.1, sx.2.2.2.2.2, xd, xm, xz', xu, xe, xc, xf) → (wpX_resolveOn post (xT, xL, xC, nI G.1, xV, xA, G.2.1, nI (d + 1), nI q, xS, xK, xI, kk, kb, kp, kn, ki, ka, kh, kd, kf, xb, nu, G.2.2, vt, vn, va, ve, xo, xt, xp, xl, xd, xm, xz, xu, xe, xc, xf)))
      ∧ (∀ post : SY → Prop, (∃ n, (wY_resolve_17 post n xT xL yW xC (nI G'.1) yV yD sy.1 yA G'.2.1 sy.2.1 kk kb kp kf kn ki ka kg kh yb yw nu G'.2.2 yt ys yc yl yn yv yo ym yf sy.2.2.1 sy.2.2.2.1 sy.2.2.2.2 yp yh)) → ∃ n, (wY_resolve_17 post n xT xL yW xC (nI G.1) yV yD (nI q) yA G.2.1 (nI b) kk kb kp kf kn ki ka kg kh yb yw nu G.2.2 yt ys yc yl yn yv yo ym yf tv tt tg yp yh)) := by
  have hT20 := sc_T20 hS
  have N4 := hR.1.2
  have hG : gv_ok G := ⟨hg, Or.inl g0⟩
  obtain ⟨bd1, bd2, bd3, bd4⟩ := sk_bd (sc_p5 hA) _ _ _ _ _ _ _ hK
  obtain ⟨b', H', a', q', s', u', r, hK', hr, hxt, hE⟩ := hK
  obtain ⟨be1, be2, be3, be4⟩ := sk_bd (sc_p5 hA) _ _ _ _ _ _ _ hK'
  have r20 : r < 20 := by omega
  have h9 := sc_k9 hA r
  have h5 := sc_p5 hA r
  have vr : vp_in (nI r) 20 := vp_in_nI r20 (by decide)
  have cr : (nI r).toNatClampNeg = r := nI_clamp (by omega)
  have vd : vp_in (nI d) 400 := vp_in_nI (by omega) (by decide)
  have cd : (nI d).toNatClampNeg = d := nI_clamp (by omega)
  have fr : ∀ {xo2 xp2 xl2 : Nat → Int32}, (∀ j, j < d → xo2 j = xo j ∧ xp2 j = xp j ∧ xl2 j = xl j) → sk T D B P I kn ka kh kg N ty st en par idx cm xo2 xt xp2 xl2 tv tt tg d b' H' a' q' s' u' := fun h => sk_fr _ _ _ _ _ _ _ hK' (fun j hj => ⟨(h j hj).1, rfl, (h j hj).2.1, (h j hj).2.2⟩) (fun j _ => ⟨rfl, rfl, rfl⟩)
  rcases hE with ⟨k7, n, l, e, c1, c2, c3, c4, c5, c6, c7, c8, c9, d1, d2, d3, d4, d5, d6⟩ | ⟨k9, k, c1, c2, c3, c4, c5, c6, c7, c8, c9⟩
  · have k7' : kk (nI r).toNatClampNeg = 7 := by rw [bg_ck hA r20 k7]; rfl
    by_cases l0 : l = 0
    · subst l0
      refine ⟨G, (nI d, nI q, xo, xt, xp, xl), (nI q, nI b, tv, tt, tg), xz, hz, fun _ => ?_, fun post k => ?_, fun post k => k⟩
      · refine ⟨hg, d, b', H', a', q', s', u', hK', by omega, by omega, rfl, by show nI q = nI q'; rw [d4], by show nI q = nI q'; rw [d4], by show nI b = nI b'; rw [d1, Nat.add_zero]⟩
      · exact nm_r (nI_pred d) (And.intro vd (nm_r (e' := nI r) (by rw [cd, hxt]) ⟨vd, nm_e ⟨vd, nm_e ⟨vr, br_t k7' ⟨vd, br_t (by rw [cd, c2]; rfl) (nm_r (nI_pred d) k)⟩⟩⟩⟩))
    · obtain ⟨n0, nN, ni, ne, na, nd⟩ := c8 (by omega)
      have bT := (sc_bT hS k7).2
      have hWn := (hR.2.2.2.1 (par n) (by have := (hR.2.2.1.2.1 n n0 nN).1; omega)).2 n n0 nN rfl
      have hTn := hR.2.2.1.2.1 n n0 nN
      have enn := (hR.2.1 n nN).2.2.1
      have en4 := (hR.2.1 n nN).2.2.2.1
      have ven : ve n = nI (en n) := (hR.2.2.2.2.1 n nN).2.2.1
      have stn := hTn.2.2.2
      rw [if_pos nd] at stn
      have cn : (nI n).toNatClampNeg = n := nI_clamp (by omega)
      have e1 : l - 1 + 1 = l := by omega
      have it0 := c9 0 (by omega)
      have eb : b' + (l - 1 - 0) = b' + (l - 1) := by omega
      rw [eb] at it0
      have bb1 : b = b' + (l - 1) + 1 := by omega
      have nxt : 0 < l - 1 → 0 < en n ∧ en n < N ∧ idx (en n) + (l - 1) = cm (par (en n)) ∧ en (par (en n)) ≤ e ∧ a' ≤ st (par (en n)) ∧ D (ty (par (en n))) = 7 := by
        intro hl
        obtain ⟨t1, t2, t3, t4, -, -⟩ := tr_step hR n0 nN (by omega)
        rw [t3, t4]
        exact ⟨t2, t1, by omega, ne, na, nd⟩
      have K1 : sk T D B P I kn ka kh kg N ty st en par idx cm (upd xo d (nI (en n))) xt xp (upd xl d (nI (l - 1))) tv tt tg (d + 1) (b' + (l - 1)) (en n) a q (s' + (l - 1)) (u' + tr_w q * (e - en n) + 1) := by
        refine ⟨b', H', a', q', s', u', r, fr (fun j hj => ⟨ba_un (by omega), rfl, ba_un (by omega)⟩), hr, hxt, Or.inl ⟨k7, en n, l - 1, e, ba_us, ba_us, by omega, by omega, c5, ?_, c7, nxt, ?_, rfl, rfl, d3, d4, rfl, by rw [d4]⟩⟩
        · by_cases hl : l - 1 = 0
          · omega
          · obtain ⟨t1, t2, t3, t4, t5, t6⟩ := nxt (by omega)
            have := tr_fit hR (l - 1 - 1) (en n) t1 t2 (by omega)
            omega
        · intro j hj
          have := c9 (j + 1) (by omega)
          have e2 : l - 1 - (j + 1) = l - 1 - 1 - j := by omega
          rw [e2] at this
          exact this
      obtain ⟨G', sx, sy, h1, hX, hY⟩ := vi_item (xT := xT) (xL := xL) (xC := xC) (xV := xV) (xA := xA) (xS := xS) (xK := xK) (xI := xI) (kf := kf) (nu := nu) (xd := xd) (xm := xm) (xu := xu) (xe := xe) (xc := xc) (xf := xf) (yW := yW) (yV := yV) (yD := yD) (yA := yA) (yw := yw) (yl := yl) (yo := yo) (ym := ym) (yf := yf) (yp := yp) (yh := yh) (xz := xz) hA hS hB hL hR hG g0 K1 hq nN bT (Nat.le_refl _) (by omega)
      refine ⟨G', sx, sy, xz, hz, fun h => ?_, fun post k => ?_, fun post k => ?_⟩
      · obtain ⟨r1, d', b2, H2, a2, q2, s2, u2, r2, r3, r4, r5⟩ := h1 h
        refine ⟨r1, d', b2, H2, a2, q2, s2, u2, r2, r3, ?_, r5⟩
        have := rs_mul (a := tr_w q) (e := e) (x := en n) (n := n) (by omega) (by omega)
        rw [← d4] at d6
        omega
      · refine nm_r (nI_pred d) (And.intro vd (nm_r (e' := nI r) (by rw [cd, hxt]) ⟨vd, nm_e ⟨vd, nm_r (e' := nI n) (by rw [cd, c1]) ⟨vr, br_t k7' ⟨vd, br_f (by rw [cd, c2]; exact fun q => l0 ((ba_e0 (by omega)).mp q)) ⟨vd, vd, nm_r (e' := upd xl d (nI (l - 1))) (by rw [cd, c2, ba_s1 (by omega), pk_vb, ba_b (by omega)]) ⟨vp_in_nI (by omega) (by decide), vd, nm_r (e' := upd xo d (nI (en n))) (by rw [cd, cn, ven, ba_vs (by omega)]) ⟨vr, ?_⟩⟩⟩⟩⟩⟩⟩))
        rw [cr, sc_b hA]
        exact hX _ k
      · obtain ⟨m, hm⟩ := k
        refine ⟨m + 1, ?_⟩
        rw [bb1]
        refine yr_turn (by omega) it0.1 (by show n < 400; omega) g0 ?_
        rw [it0.2]
        exact hY _ hm
  · have k9' : ¬ kk (nI r).toNatClampNeg = 7 := by rw [bg_ck hA r20 k9]; decide
    by_cases kP : k = P r
    · subst kP
      rw [Nat.sub_self, Nat.add_zero] at c4
      have hu : u' < u := by
        rcases c9 with ⟨_, _, z⟩ | ⟨_, _, _, _, _, _, _, z⟩ <;> omega
      refine ⟨G, (nI d, nI q - 1, xo, xt, xp, xl), (nI q - 1, nI b', tv, tt, tg), xz, hz, fun _ => ?_, fun post k => ?_, fun post k => ?_⟩
      · refine ⟨hg, d, b', H', a', q', s', u', hK', by omega, hu, rfl, by show nI q - 1 = nI q'; rw [c7, nI_pred], by show nI q - 1 = nI q'; rw [c7, nI_pred], rfl⟩
      · exact nm_r (nI_pred d) (And.intro vd (nm_r (e' := nI r) (by rw [cd, hxt]) ⟨vd, nm_r (e' := nI (P r)) (by rw [cd, c1]) ⟨vd, nm_e ⟨vr, br_f k9' ⟨vr, br_t (by rw [cr, sc_p hA]) (nm_r (nI_pred d) (nm_e k))⟩⟩⟩⟩))
      · obtain ⟨m, hm⟩ := k
        refine ⟨m + 1, ?_⟩
        rw [c4]
        exact yr_end (by omega) c3 g0 hm
    · have hkP : k < P r := by omega
      have b1 : b = b' + (P r - k) + 1 := by omega
      have v5 : vp_in (nI (5 * r + k)) 100 := vp_in_nI (by omega) (by decide)
      have cc5 : (nI (5 * r + k)).toNatClampNeg = 5 * r + k := nI_clamp (by omega)
      have e5 : 5 * nI r + nI k = nI (5 * r + k) := by rw [ba_5, nI_add]
      have iT : I (5 * r + k) < T := sc_iT hS _ (by omega)
      have PX : ∀ post : SX → Prop, ((0 ≤ xo d → (vp_in (xo d) 400 ∧ (wpX_planned (fun r_17 u => match u with | (xT, xL, xC, xG, xV, xA, xF, xD, xN, xS, xK, xI, kk, kb, kp, kn, ki, ka, kh, kd, kf, xb, nu, rs, vt, vn, va, ve, xo, xt, xp, xl, xd, xm, xz, xu, xe, xc, xf) => (wX_resolveOn_163 post (nI r) (nI k) (xo d) r_17 xT xL xC xG xV xA xF xD xN xS xK xI kk kb kp kn ki ka kh kd kf xb nu rs vt vn va ve xo xt xp xl xd xm xz xu xe xc xf)) (xT, xL, xC, nI G.1, xV, xA, G.2.1, nI (d + 1), nI q, xS, xK, xI, kk, kb, kp, kn, ki, ka, kh, kd, kf, xb, nu, G.2.2, vt, vn, va, ve, xo, xt, upd xp d (nI (k + 1)), xl, xd, xm, xz, xu, xe, xc, xf) (vt (xo d).toNatClampNeg) (nI r) (nI k)))) ∧ (¬ 0 ≤ xo d → (wX_resolveOn_163 post (nI r) (nI k) (xo d) (-1) xT xL xC (nI G.1) xV xA G.2.1 (nI (d + 1)) (nI q) xS xK xI kk kb kp kn ki ka kh kd kf xb nu G.2.2 vt vn va ve xo xt (upd xp d (nI (k + 1))) xl xd xm xz xu xe xc xf))) → (wpX_resolveOn post (xT, xL, xC, nI G.1, xV, xA, G.2.1, nI (d + 1), nI q, xS, xK, xI, kk, kb, kp, kn, ki, ka, kh, kd, kf, xb, nu, G.2.2, vt, vn, va, ve, xo, xt, xp, xl, xd, xm, xz, xu, xe, xc, xf)) := by
        intro post h
        exact nm_r (nI_pred d) (And.intro vd (nm_r (e' := nI r) (by rw [cd, hxt]) ⟨vd, nm_r (e' := nI k) (by rw [cd, c1]) ⟨vd, nm_r (e' := xo d) (by rw [cd]) ⟨vr, br_f k9' ⟨vr, br_f (by rw [cr, sc_p hA]; exact fun q => kP ((nI_eq (by omega) (by omega)).mp q)) ⟨vd, vd, nm_r (e' := upd xp d (nI (k + 1))) (by rw [cd, c1, nI_1, pk_vb, ba_b (by omega)]) h⟩⟩⟩⟩⟩))
      -- a default
      have DEF : ∀ (W : Nat) (zz : Nat → Int32), pl_ok T P kn ka zz → tr_w q ≤ W → u = u' + (P r - k) * W + 1 → sk T D B P I kn ka kh kg N ty st en par idx cm xo xt (upd xp d (nI (k + 1))) xl tv tt tg (d + 1) (b' + (P r - k)) H a q s (u' + (P r - (k + 1)) * W + 1) → it_d I kh kg tv tt tg r k (b' + (P r - k)) →
          ∃ (G' : gv_T) (sx : rv_SX) (sy : rv_SY), (G'.2.1 = 0 → rv_G T D B P I kn ka kh kg N ty st en par idx cm u G' sx sy)
            ∧ (∀ post : SX → Prop, post (xT, xL, xC, nI G'.1, xV, xA, G'.2.1, sx.1, sx.2.1, xS, xK, xI, kk, kb, kp, kn, ki, ka, kh, kd, kf, xb, nu, G'.2.2, vt, vn, va, ve, sx.2.2.1, sx.2.2.2.1, sx.2.2.2.2.1, sx.2.2.2.2.2, xd, xm, zz, xu, xe, xc, xf) → (wX_resolveOn_163 post (nI r) (nI k) (xo d) (-1) xT xL xC (nI G.1) xV xA G.2.1 (nI (d + 1)) (nI q) xS xK xI kk kb kp kn ki ka kh kd kf xb nu G.2.2 vt vn va ve xo xt (upd xp d (nI (k + 1))) xl xd xm zz xu xe xc xf))
            ∧ (∀ post : SY → Prop, (∃ n, (wY_resolve_17 post n xT xL yW xC (nI G'.1) yV yD sy.1 yA G'.2.1 sy.2.1 kk kb kp kf kn ki ka kg kh yb yw nu G'.2.2 yt ys yc yl yn yv yo ym yf sy.2.2.1 sy.2.2.2.1 sy.2.2.2.2 yp yh)) → ∃ n, (wY_resolve_17 post n xT xL yW xC (nI G.1) yV yD (nI q) yA G.2.1 (nI b) kk kb kp kf kn ki ka kg kh yb yw nu G.2.2 yt ys yc yl yn yv yo ym yf tv tt tg yp yh)) := by
        intro W zz hzz hW hu K1 hi
        obtain ⟨i1, i2, i3⟩ := hi
        rcases sc_h hS (5 * r + k) with ⟨x1, x2⟩ | ⟨x1, x2⟩
        · rw [if_pos x1] at i1
          refine ⟨(G.1, -6, G.2.2), (nI (d + 1), nI q, xo, xt, upd xp d (nI (k + 1)), xl), (nI q, nI (b' + (P r - k)), tv, tt, tg), fun h => absurd h (by show ¬ (-6 : Int32) = 0; decide), fun post h => br_f ba_m1le ?_, fun post h => ?_⟩
          · rw [e5, cc5]
            refine ⟨v5, br_t x1 ?_⟩
            rw [g0]
            exact xf_fail h
          · obtain ⟨m, hm⟩ := h
            refine ⟨m + 1, ?_⟩
            rw [b1]
            exact yr_mis (by omega) i1 g0 hm
        · rw [if_neg (by rw [x1]; decide)] at i1
          obtain ⟨G', sx, sy, h1, hX, hY⟩ := di_item (dv := kd (5 * r + k)) (xT := xT) (xL := xL) (xC := xC) (xV := xV) (xA := xA) (xS := xS) (xK := xK) (xI := xI) (kf := kf) (xb := xb) (yb := yb) (nu := nu) (vt := vt) (vn := vn) (va := va) (ve := ve) (xd := xd) (xm := xm) (xu := xu) (xe := xe) (xc := xc) (xf := xf) (yW := yW) (yV := yV) (yD := yD) (yA := yA) (yw := yw) (yt := yt) (ys := ys) (yc := yc) (yl := yl) (yn := yn) (yv := yv) (yo := yo) (ym := ym) (yf := yf) (yp := yp) (yh := yh) (xz := zz) hA hS hG g0 K1 hq iT N4
          refine ⟨G', sx, sy, fun h => ?_, fun post h => br_f ba_m1le ?_, fun post h => ?_⟩
          · obtain ⟨r1, d', b2, H2, a2, q2, s2, u2, r2, r3, r4, r5⟩ := h1 h
            refine ⟨r1, d', b2, H2, a2, q2, s2, u2, r2, r3, ?_, r5⟩
            have e1 : P r - (k + 1) = P r - k - 1 := by omega
            have := rs_mul1 (a := W) (m := P r - k) (by omega)
            rw [e1] at r4
            omega
          · rw [e5, cc5, sc_i hA]
            exact ⟨v5, br_f (by rw [x1]; decide) ⟨v5, v5, hX _ h⟩⟩
          · obtain ⟨m, hm⟩ := hY _ h
            refine ⟨m + 1, ?_⟩
            rw [b1]
            refine yr_def (by omega) i1 g0 ?_
            rw [i2, i3, ← x2]
            exact hm
      rcases c9 with ⟨f1, f2, f3⟩ | ⟨n, f1, f2, f3, f4, f5, f6, f7⟩
      · have K1 : sk T D B P I kn ka kh kg N ty st en par idx cm xo xt (upd xp d (nI (k + 1))) xl tv tt tg (d + 1) (b' + (P r - k)) H a q s (u' + (P r - (k + 1)) * tr_w q + 1) := by
          refine ⟨b', H', a', q', s', u', r, fr (fun j hj => ⟨rfl, ba_un (by omega), rfl⟩), hr, hxt, Or.inr ⟨k9, k + 1, ba_us, by omega, c3, by omega, c5, c6, c7, c8, Or.inl ⟨f1, fun j j1 j2 => f2 j (by omega) j2, rfl⟩⟩⟩
        obtain ⟨G', sx, sy, h1, hX, hY⟩ := DEF (tr_w q) xz hz (Nat.le_refl _) f3 K1 (f2 k (Nat.le_refl _) hkP)
        exact ⟨G', sx, sy, xz, hz, h1, fun post h => PX post (br_f (by rw [f1]; exact ba_m1le) (hX post h)), hY⟩
      · have enn := (hR.2.1 n f2).2.2.1
        have tyn := (hR.2.1 n f2).1
        have hw7 := tr_w7 hq
        have K1 : sk T D B P I kn ka kh kg N ty st en par idx cm xo xt (upd xp d (nI (k + 1))) xl tv tt tg (d + 1) (b' + (P r - k)) H a q s (u' + (P r - (k + 1)) * (tr_w q * (en n - n)) + 1) := by
          refine ⟨b', H', a', q', s', u', r, fr (fun j hj => ⟨rfl, ba_un (by omega), rfl⟩), hr, hxt, Or.inr ⟨k9, k + 1, ba_us, by omega, c3, by omega, c5, c6, c7, c8, Or.inr ⟨n, f1, f2, f3, f4, f5, fun j j1 j2 => f6 j (by omega) j2, rfl⟩⟩⟩
        obtain ⟨xz', hz', hpl⟩ := xp_planned (xT := xT) (xL := xL) (xC := xC) (xG := nI G.1) (xV := xV) (xA := xA) (xF := G.2.1) (xD := nI (d + 1)) (xN := nI q) (xS := xS) (xK := xK) (xI := xI) (kh := kh) (kd := kd) (kf := kf) (xb := xb) (nu := nu) (rs := G.2.2) (vt := vt) (vn := vn) (va := va) (ve := ve) (xo := xo) (xt := xt) (xp := upd xp d (nI (k + 1))) (xl := xl) (xd := xd) (xm := xm) (xu := xu) (xe := xe) (xc := xc) (xf := xf) hA hT20 hz tyn hr (k := k) (by omega)
        have PX2 : ∀ post : SX → Prop, (wX_resolveOn_163 post (nI r) (nI k) (xo d) (sc_pl P kn ka (ty n) r k) xT xL xC (nI G.1) xV xA G.2.1 (nI (d + 1)) (nI q) xS xK xI kk kb kp kn ki ka kh kd kf xb nu G.2.2 vt vn va ve xo xt (upd xp d (nI (k + 1))) xl xd xm xz' xu xe xc xf) → (wpX_resolveOn post (xT, xL, xC, nI G.1, xV, xA, G.2.1, nI (d + 1), nI q, xS, xK, xI, kk, kb, kp, kn, ki, ka, kh, kd, kf, xb, nu, G.2.2, vt, vn, va, ve, xo, xt, xp, xl, xd, xm, xz, xu, xe, xc, xf)) := by
          intro post h
          refine PX post (br_t (by rw [f1]; exact nI_pos' (by omega)) ⟨by rw [f1]; exact vp_in_nI (by omega) (by decide), ?_⟩)
          have evt : vt (xo d).toNatClampNeg = nI (ty n) := by rw [f1, nI_clamp (by omega)]; exact (hR.2.2.2.2.1 n f2).1
          rw [evt]
          exact hpl _ h
        rcases f6 k (Nat.le_refl _) hkP with ⟨y1, y2⟩ | ⟨g, y1, y2, y3, y4⟩
        · obtain ⟨G', sx, sy, h1, hX, hY⟩ := DEF (tr_w q * (en n - n)) xz' hz' (Nat.le_mul_of_pos_right _ (by omega)) f7 K1 y2
          refine ⟨G', sx, sy, xz', hz', h1, fun post h => PX2 post ?_, hY⟩
          rw [y1]
          exact hX post h
        · have cmn : cm n = P (ty n) := by
            rw [(hR.2.2.2.1 n f2).1]
            unfold rd_nch
            rw [if_neg (by omega), if_neg (by omega), if_pos f3]
          have h5n := sc_p5 hA (ty n)
          obtain ⟨t1, t2, t3, t4⟩ := tr_kid hR f2 (by omega)
          obtain ⟨w1, w2, w3, w4⟩ := tr_chain hR g (n + 1) (by omega) t1 (by rw [t2, t3]; omega)
          rw [t2] at w3
          have enc := (hR.2.2.2.1 n f2).2 _ w2 w1 w3
          have hTc := hR.2.2.1.2.1 _ w2 w1
          have stc := hTc.2.2.2
          rw [w3] at stc
          have lt := hTc.1
          rw [w3] at lt
          have encc := (hR.2.1 _ w1).2.2.1
          obtain ⟨G', sx, sy, h1, hX, hY⟩ := vi_item (xT := xT) (xL := xL) (xC := xC) (xV := xV) (xA := xA) (xS := xS) (xK := xK) (xI := xI) (kf := kf) (nu := nu) (xd := xd) (xm := xm) (xu := xu) (xe := xe) (xc := xc) (xf := xf) (yW := yW) (yV := yV) (yD := yD) (yA := yA) (yw := yw) (yl := yl) (yo := yo) (ym := ym) (yf := yf) (yp := yp) (yh := yh) (xz := xz') hA hS hB hL hR hG g0 K1 hq w1 iT (by omega) (by split at stc <;> omega)
          refine ⟨G', sx, sy, xz', hz', fun h => ?_, fun post h => PX2 post ?_, fun post h => ?_⟩
          · obtain ⟨r1, d', b2, H2, a2, q2, s2, u2, r2, r3, r4, r5⟩ := h1 h
            refine ⟨r1, d', b2, H2, a2, q2, s2, u2, r2, r3, ?_, r5⟩
            have e1 : P r - (k + 1) = P r - k - 1 := by omega
            have m1 := rs_mul1 (a := tr_w q * (en n - n)) (m := P r - k) (by omega)
            have m2 : tr_w q * (en (tr_ch en g (n + 1)) - tr_ch en g (n + 1)) ≤ tr_w q * (en n - n) := Nat.mul_le_mul_left _ (by omega)
            rw [e1] at r4
            omega
          · rw [y2]
            refine br_t (nI_pos' (by omega)) (nm_r (e' := nI (n + 1)) (by rw [f1, nI_1]) (Exists.intro (g + 1) (xr_226 hR (by omega) g 0 (n + 1) _ (by omega) (by omega) (by omega) t1 (by rw [t2, t3]; omega) ?_)))
            rw [e5, cc5, sc_i hA]
            exact ⟨v5, hX _ h⟩
          · obtain ⟨m, hm⟩ := h
            refine ⟨m + 1, ?_⟩
            rw [b1]
            refine yr_turn (by omega) y3 (by omega) g0 ?_
            rw [y4]
            exact hY _ hm
end
end
section
section
variable {xT xL xC xG xV xA xF xD xN xS xK xI yW yV yD yR yA yF yO : Int32} {kk kb kp kn ki ka kh kd kf xb vt va ve xo xt xp xl xd xm xz xu xe xc xf kg yb yw yt ys yc yl yn yo ym yf tv tt tg yp yh : Nat → Int32} {nu rs vn yv : Nat → Int64}
variable {D B P I bb : Nat → Nat} {T L N d p t C : Nat} {ty st en mb par idx cm lc op lf : Nat → Nat}
theorem rs_loop (hA : sc_A D B P I kk kb kp ki) (hS : sc_T T D B P I kn kh kd kg) (hB : by_ok xb yb bb) (hL : L ≤ 100) (hR : tr_ok T L D B P N ty st en mb par idx cm vt va ve yt ys yc yn vn yv) :
    ∀ (m : Nat) (G : gv_T) (sx : rv_SX) (sy : rv_SY) (xz : Nat → Int32), pl_ok T P kn ka xz → rv_G T D B P I kn ka kh kg N ty st en par idx cm m G sx sy →
    ∃ (G' : gv_T) (sx' : rv_SX) (sy' : rv_SY) (xz' : Nat → Int32), pl_ok T P kn ka xz' ∧ (G'.2.1 = 0 → G'.1 ≤ 150)
      ∧ (∀ post : Int32 → SX → Prop, (wX_read_106 post xT xL xC (nI G'.1) xV xA G'.2.1 sx'.1 sx'.2.1 xS xK xI kk kb kp kn ki ka kh kd kf xb nu G'.2.2 vt vn va ve sx'.2.2.1 sx'.2.2.2.1 sx'.2.2.2.2.1 sx'.2.2.2.2.2 xd xm xz' xu xe xc xf) → ∃ n, (wX_read_85 post n xT xL xC (nI G.1) xV xA 0 sx.1 sx.2.1 xS xK xI kk kb kp kn ki ka kh kd kf xb nu G.2.2 vt vn va ve sx.2.2.1 sx.2.2.2.1 sx.2.2.2.2.1 sx.2.2.2.2.2 xd xm xz xu xe xc xf))
      ∧ (∀ post : SY → Prop, post (xT, xL, yW, xC, nI G'.1, yV, yD, sy'.1, yA, G'.2.1, sy'.2.1, kk, kb, kp, kf, kn, ki, ka, kg, kh, yb, yw, nu, G'.2.2, yt, ys, yc, yl, yn, yv, yo, ym, yf, sy'.2.2.1, sy'.2.2.2.1, sy'.2.2.2.2, yp, yh) → ∃ n, (wY_resolve_17 post n xT xL yW xC (nI G.1) yV yD sy.1 yA 0 sy.2.1 kk kb kp kf kn ki ka kg kh yb yw nu G.2.2 yt ys yc yl yn yv yo ym yf sy.2.2.1 sy.2.2.2.1 sy.2.2.2.2 yp yh)) := by
  intro m
  induction m with
  | zero =>
    intro G sx sy xz hz h
    obtain ⟨-, d, b, H, a, q, s, u, -, -, h3, -⟩ := h
    omega
  | succ m ih =>
    intro G sx sy xz hz h
    obtain ⟨g, f, rs⟩ := G
    obtain ⟨xD, xN, xo, xt, xp, xl⟩ := sx
    obtain ⟨yR, yO, tv, tt, tg⟩ := sy
    obtain ⟨hg, d, b, H, a, q, s, u, hK, hq, hu, e1, e2, e3, e4⟩ := h
    dsimp only at hg hK e1 e2 e3 e4
    subst e1 e2 e3 e4
    cases d with
    | zero =>
      obtain ⟨b0, -⟩ := hK
      subst b0
      exact ⟨(g, 0, rs), (nI 0, nI q, xo, xt, xp, xl), (nI q, nI 0, tv, tt, tg), xz, hz, fun _ => hg, fun post k => ⟨1, br_t rfl (br_t (show nI 0 ≤ 0 by decide) k)⟩, fun post k => ⟨1, br_t (show nI 0 ≤ 0 by decide) k⟩⟩
    | succ d =>
      have bd := sk_bd (sc_p5 hA) _ _ _ _ _ _ _ hK
      have nd : ¬ nI (d + 1) ≤ 0 := fun e => by have := (ba_le0 (by omega)).mp e; omega
      obtain ⟨G', sx1, sy1, xz1, hz1, h1, hX, hY⟩ := rs_step (G := (g, 0, rs)) (xT := xT) (xL := xL) (xC := xC) (xV := xV) (xA := xA) (xS := xS) (xK := xK) (xI := xI) (kf := kf) (nu := nu) (xd := xd) (xm := xm) (xu := xu) (xe := xe) (xc := xc) (xf := xf) (yW := yW) (yV := yV) (yD := yD) (yA := yA) (yw := yw) (yl := yl) (yo := yo) (ym := ym) (yf := yf) (yp := yp) (yh := yh) hA hS hB hL hR hz hg rfl hK hq
      by_cases g1 : G'.2.1 = 0
      · obtain ⟨r1, d', b2, H2, a2, q2, s2, u2, r2, r3, r4, r5⟩ := h1 g1
        obtain ⟨G2, sx2, sy2, xz2, hz2, h2, hX2, hY2⟩ := ih G' sx1 sy1 xz1 hz1 ⟨r1, d', b2, H2, a2, q2, s2, u2, r2, r3, by omega, r5⟩
        refine ⟨G2, sx2, sy2, xz2, hz2, h2, fun post k => ?_, fun post k => ?_⟩
        · obtain ⟨n, hn⟩ := hX2 post k
          refine ⟨n + 1, br_t rfl (br_f nd (hX _ ?_))⟩
          rw [g1]
          exact hn
        · apply hY
          obtain ⟨n, hn⟩ := hY2 post k
          refine ⟨n, ?_⟩
          rw [g1]
          exact hn
      · refine ⟨G', sx1, sy1, xz1, hz1, fun h => absurd h g1, fun post k => ⟨2, br_t rfl (br_f nd (hX _ (br_f g1 k)))⟩, fun post k => hY _ ⟨1, br_c (fun _ => k) (fun _ => br_f g1 k)⟩⟩
/-- resolving, from its beginning on -/
theorem rs_main (hA : sc_A D B P I kk kb kp ki) (hS : sc_T T D B P I kn kh kd kg) (hB : by_ok xb yb bb) (hL : L ≤ 100) (hR : tr_ok T L D B P N ty st en mb par idx cm vt va ve yt ys yc yn vn yv) (hz : pl_ok T P kn ka xz) {z : Nat} (hzT : z < T) :
    ∃ (G' : gv_T) (sx' : rv_SX) (sy' : rv_SY) (xz' : Nat → Int32), pl_ok T P kn ka xz' ∧ (G'.2.1 = 0 → G'.1 ≤ 150)
      ∧ (∀ post : Int32 → SX → Prop, (wX_read_106 post xT xL xC (nI G'.1) xV xA G'.2.1 sx'.1 sx'.2.1 xS xK xI kk kb kp kn ki ka kh kd kf xb nu G'.2.2 vt vn va ve sx'.2.2.1 sx'.2.2.2.1 sx'.2.2.2.2.1 sx'.2.2.2.2.2 xd xm xz' xu xe xc xf) → (wX_read_63 post (nI z) xT xL xC 0 xV xA 0 xD xN xS xK xI kk kb kp kn ki ka kh kd kf xb nu rs vt vn va ve xo xt xp xl xd xm xz xu xe xc xf))
      ∧ (∀ post : Int32 → SY → Prop, (wY_read_98 post xT xL yW xC (nI G'.1) yV yD sy'.1 yA G'.2.1 sy'.2.1 kk kb kp kf kn ki ka kg kh yb yw nu G'.2.2 yt ys yc yl yn yv yo ym yf sy'.2.2.1 sy'.2.2.2.1 sy'.2.2.2.2 yp yh) → (wY_read_86 post (nI z) xT xL yW xC 0 yV yD yR yA 0 yO kk kb kp kf kn ki ka kg kh yb yw nu rs yt ys yc yl yn yv yo ym yf tv tt tg yp yh)) := by
  have hK : sk T D B P I kn ka kh kg N ty st en par idx cm xo xt xp xl (upd tv 0 0) (upd tt 0 (nI z)) (upd tg 0 0) 0 0 N 0 0 0 0 := ⟨rfl, rfl, rfl, rfl, rfl, rfl⟩
  have N0 := hR.1.1
  obtain ⟨G', sx, sy, h1, hX, hY⟩ := vi_item (G := (0, 0, rs)) (v := 0) (z := z) (xT := xT) (xL := xL) (xC := xC) (xV := xV) (xA := xA) (xS := xS) (xK := xK) (xI := xI) (kf := kf) (nu := nu) (xd := xd) (xm := xm) (xu := xu) (xe := xe) (xc := xc) (xf := xf) (yW := yW) (yV := yV) (yD := yD) (yA := yA) (yw := yw) (yl := yl) (yo := yo) (ym := ym) (yf := yf) (yp := yp) (yh := yh) (xz := xz) hA hS hB hL hR ⟨by show 0 ≤ 150; omega, Or.inl rfl⟩ rfl hK (by omega) N0 hzT (hR.2.1 0 N0).2.2.2.1 (by omega)
  have X0 : ∀ post : Int32 → SX → Prop, (∃ n, (wX_read_85 post n xT xL xC (nI G'.1) xV xA G'.2.1 sx.1 sx.2.1 xS xK xI kk kb kp kn ki ka kh kd kf xb nu G'.2.2 vt vn va ve sx.2.2.1 sx.2.2.2.1 sx.2.2.2.2.1 sx.2.2.2.2.2 xd xm xz xu xe xc xf)) → (wX_read_63 post (nI z) xT xL xC 0 xV xA 0 xD xN xS xK xI kk kb kp kn ki ka kh kd kf xb nu rs vt vn va ve xo xt xp xl xd xm xz xu xe xc xf) := by
    intro post k
    exact br_t rfl (hX _ k)
  have Y0 : ∀ post : Int32 → SY → Prop, (∃ n, (wY_resolve_17 (fun u => match u with | (xT, xL, yW, xC, xG, yV, yD, yR, yA, yF, yO, kk, kb, kp, kf, kn, ki, ka, kg, kh, yb, yw, nu, rs, yt, ys, yc, yl, yn, yv, yo, ym, yf, tv, tt, tg, yp, yh) => (wY_read_98 post xT xL yW xC xG yV yD yR yA yF yO kk kb kp kf kn ki ka kg kh yb yw nu rs yt ys yc yl yn yv yo ym yf tv tt tg yp yh)) n xT xL yW xC (nI G'.1) yV yD sy.1 yA G'.2.1 sy.2.1 kk kb kp kf kn ki ka kg kh yb yw nu G'.2.2 yt ys yc yl yn yv yo ym yf sy.2.2.1 sy.2.2.2.1 sy.2.2.2.2 yp yh)) → (wY_read_86 post (nI z) xT xL yW xC 0 yV yD yR yA 0 yO kk kb kp kf kn ki ka kg kh yb yw nu rs yt ys yc yl yn yv yo ym yf tv tt tg yp yh) := by
    intro post k
    obtain ⟨n, hn⟩ := k
    refine br_t rfl ?_
    unfold wpY_resolve
    refine yf_later (o := 0) (by omega) ⟨n + 1, yr_turn (b := 0) (c := 0) (by omega) ba_us (by omega) rfl ?_⟩
    rw [ba_us]
    exact hY _ hn
  by_cases g1 : G'.2.1 = 0
  · obtain ⟨G2, sx2, sy2, xz2, hz2, h2, hX2, hY2⟩ := rs_loop (xT := xT) (xL := xL) (xC := xC) (xV := xV) (xA := xA) (xS := xS) (xK := xK) (xI := xI) (kf := kf) (nu := nu) (xd := xd) (xm := xm) (xu := xu) (xe := xe) (xc := xc) (xf := xf) (yW := yW) (yV := yV) (yD := yD) (yA := yA) (yw := yw) (yl := yl) (yo := yo) (ym := ym) (yf := yf) (yp := yp) (yh := yh) hA hS hB hL hR _ G' sx sy xz hz (h1 g1)
    refine ⟨G2, sx2, sy2, xz2, hz2, h2, fun post k => X0 post ?_, fun post k => Y0 post ?_⟩
    · rw [g1]
      exact hX2 post k
    · rw [g1]
      exact hY2 _ k
  · exact ⟨G', sx, sy, xz, hz, fun h => absurd h g1, fun post k => X0 post ⟨1, br_f g1 k⟩, fun post k => Y0 post ⟨1, br_c (fun _ => k) (fun _ => br_f g1 k)⟩⟩
end
end
section
section
variable {xT xL xC xG xV xA xF xD xN xS xK xI yW yV yD yR yA yF yO : Int32} {kk kb kp kn ki ka kh kd kf xb vt va ve xo xt xp xl xd xm xz xu xe xc xf kg yb yw yt ys yc yl yn yo ym yf tv tt tg yp yh : Nat → Int32} {nu rs vn yv : Nat → Int64}
variable {D B P I bb : Nat → Nat} {T L C G : Nat}
/-- from the end of reading on -/
theorem ra_end {k : Nat} (F : re_F T L C G D B P I bb xK xI kk kb kp kn ki ka kh kd kf kg xb yb xz xu xc) {z : Nat} (hz : z < T) (f : Int32) (sx : rd_SX) (sy : rd_SY) (h : f = 0 → ∃ M, go_G T L D B P M sx sy ∧ sx.2.2.1 = nI 0) :
    ∃ (r : Int32) (u : SX) (v : SY), i_Rel k u v ∧ (∀ post : Int32 → SX → Prop, post r u → (wX_read_63 post (nI z) (nI T) (nI L) (nI C) 0 sx.1 sx.2.1 f sx.2.2.1 sx.2.2.2.1 xS xK xI kk kb kp kn ki ka kh kd kf xb nu rs sx.2.2.2.2.1 sx.2.2.2.2.2.1 sx.2.2.2.2.2.2.1 sx.2.2.2.2.2.2.2.1 sx.2.2.2.2.2.2.2.2.1 sx.2.2.2.2.2.2.2.2.2.1 sx.2.2.2.2.2.2.2.2.2.2.1 sx.2.2.2.2.2.2.2.2.2.2.2 xd xm xz xu xe xc xf)) ∧ (∀ post : Int32 → SY → Prop, post r v → (wY_read_86 post (nI z) (nI T) (nI L) yW (nI C) 0 sy.1 sy.2.1 sy.2.2.1 sy.2.2.2.1 f yO kk kb kp kf kn ki ka kg kh yb yw nu rs sy.2.2.2.2.1 sy.2.2.2.2.2.1 sy.2.2.2.2.2.2.1 sy.2.2.2.2.2.2.2.1 sy.2.2.2.2.2.2.2.2.1 sy.2.2.2.2.2.2.2.2.2.1 sy.2.2.2.2.2.2.2.2.2.2.1 sy.2.2.2.2.2.2.2.2.2.2.2.1 sy.2.2.2.2.2.2.2.2.2.2.2.2 tv tt tg yp yh)) := by
  obtain ⟨hA, hS, ⟨hL, hC, hG⟩, hB, hpl, hkn⟩ := F
  by_cases hf : f = 0
  · subst hf
    obtain ⟨M, hG, hd0⟩ := h rfl
    obtain ⟨xV, xA, xD, xN, vt, vn, va, ve, xo, xt, xp, xl⟩ := sx
    obtain ⟨yV, yD, yR, yA, yt, ys, yc, yl, yn, yv, yo, ym, yf⟩ := sy
    obtain ⟨N, d, p, ty, st, en, mb, par, idx, cm, lc, op, lf, h0, hp, hM, hP, hR, e1, e2, e3, e4, e5, e6, e7⟩ := hG
    dsimp only at hR e1 e2 e3 e4 e5 e6 e7 hd0
    subst e1 e2 e4 e6
    rw [hd0] at e3
    have dd : d = 0 := (ba_inj e3 (by decide) (by have := hP.1; omega)).symm
    subst dd
    have hT := tr_of hp h0 hP hR
    obtain ⟨G', sx', sy', xz', hz', g1, hX, hY⟩ := rs_main (xT := nI T) (xL := nI L) (xC := nI C) (xV := nI N) (xA := nI p) (xD := xD) (xN := xN) (xS := xS) (xK := xK) (xI := xI) (kf := kf) (nu := nu) (rs := rs) (xo := xo) (xt := xt) (xp := xp) (xl := xl) (xd := xd) (xm := xm) (xu := xu) (xe := xe) (xc := xc) (xf := xf) (yW := yW) (yV := nI N) (yD := yD) (yR := yR) (yA := nI p) (yO := yO) (yw := yw) (yl := yl) (yo := yo) (ym := ym) (yf := yf) (tv := tv) (tt := tt) (tg := tg) (yp := yp) (yh := yh) hA hS hB hL hT hpl hz
    obtain ⟨g, f, rs'⟩ := G'
    obtain ⟨x1, x2, x3, x4, x5, x6⟩ := sx'
    obtain ⟨y1, y2, y3, y4, y5⟩ := sy'
    by_cases hf : f = 0
    · subst hf
      exact ⟨nI p, _, _, re_in (k := k) (G := g) (rs := rs') (xz := xz') ⟨hA, hS, ⟨hL, hC, g1 rfl⟩, hB, hz', hkn⟩, fun post h => hX post (br_t rfl (br_t rfl h)), fun post h => hY post (br_t rfl (br_t rfl h))⟩
    · exact ⟨f, _, _, re_in (k := k) (G := 0) (rs := rs') (xz := xz') ⟨hA, hS, ⟨hL, hC, by omega⟩, hB, hz', hkn⟩, fun post h => hX post (br_f hf (br_f hf h)), fun post h => hY post (br_f hf (br_f hf h))⟩
  · exact ⟨f, _, _, re_in (k := k) (G := 0) ⟨hA, hS, ⟨hL, hC, by omega⟩, hB, hpl, hkn⟩, fun post h => br_f hf h, fun post h => br_f hf (br_f hf (br_f hf h))⟩
theorem sm_read {k : Nat} (F : re_F T L C G D B P I bb xK xI kk kb kp kn ki ka kh kd kf kg xb yb xz xu xc) (v1 v2 : Int32) : wpX_read (fun r u' => wpY_read (fun r' v' => r' = r ∧ i_Rel (k + 7) u' v') (nI T, nI L, yW, nI C, nI G, yV, yD, yR, yA, yF, yO, kk, kb, kp, kf, kn, ki, ka, kg, kh, yb, yw, nu, rs, yt, ys, yc, yl, yn, yv, yo, ym, yf, tv, tt, tg, yp, yh) v1 v2) (nI T, nI L, nI C, nI G, xV, xA, xF, xD, xN, xS, xK, xI, kk, kb, kp, kn, ki, ka, kh, kd, kf, xb, nu, rs, vt, vn, va, ve, xo, xt, xp, xl, xd, xm, xz, xu, xe, xc, xf) v1 v2 := by
  have hT : T ≤ 20 := F.2.1.1
  have F' := F
  obtain ⟨hA, hS, ⟨hL, hC, hG⟩, hB, hpl, hkn⟩ := F'
  unfold wpX_read wpY_read
  rcases sm_ix v1 (n := T) (by omega) with h | ⟨w, hw, rfl⟩
  · exact xf_isType_n h (br_t rfl (yf_isT_n hT h (br_t rfl ⟨rfl, re_in F⟩)))
  rcases sm_ix v2 (n := T) (by omega) with h | ⟨z, hz, rfl⟩
  · exact xf_isType_y hT hw (br_f (by decide) (xf_isType_n h (br_t rfl (yf_isT_y hT hw (br_f (by decide) (yf_isT_n hT h (br_t rfl ⟨rfl, re_in F⟩)))))))
  obtain ⟨f, sx, sy, h1, hX, hY⟩ := go_root (t := w) (xT := nI T) (xC := nI C) (xG := 0) (xS := xS) (xK := xK) (xI := xI) (kn := kn) (ka := ka) (kh := kh) (kd := kd) (kf := kf) (kg := kg) (nu := nu) (rs := rs) (vt := vt) (vn := vn) (va := va) (ve := ve) (xo := xo) (xt := xt) (xp := xp) (xl := xl) (xd := xd) (xm := xm) (xz := xz) (xu := xu) (xe := xe) (xc := xc) (xf := xf) (yW := yW) (yO := yO) (yw := yw) (yt := yt) (ys := ys) (yc := yc) (yl := yl) (yn := yn) (yv := yv) (yo := yo) (ym := ym) (yf := yf) (tv := tv) (tt := tt) (tg := tg) (yp := yp) (yh := yh) hA hB hL hT hw
  have J : ∃ (r : Int32) (u : SX) (v : SY), i_Rel (k + 7) u v ∧ (∀ post : Int32 → SX → Prop, post r u → ∃ n, (wX_read_42 post (nI z) n (nI T) (nI L) (nI C) 0 sx.1 sx.2.1 f sx.2.2.1 sx.2.2.2.1 xS xK xI kk kb kp kn ki ka kh kd kf xb nu rs sx.2.2.2.2.1 sx.2.2.2.2.2.1 sx.2.2.2.2.2.2.1 sx.2.2.2.2.2.2.2.1 sx.2.2.2.2.2.2.2.2.1 sx.2.2.2.2.2.2.2.2.2.1 sx.2.2.2.2.2.2.2.2.2.2.1 sx.2.2.2.2.2.2.2.2.2.2.2 xd xm xz xu xe xc xf)) ∧ (∀ post : Int32 → SY → Prop, post r v → ∃ n, (wY_read_65 post (nI z) n (nI T) (nI L) yW (nI C) 0 sy.1 sy.2.1 sy.2.2.1 sy.2.2.2.1 f yO kk kb kp kf kn ki ka kg kh yb yw nu rs sy.2.2.2.2.1 sy.2.2.2.2.2.1 sy.2.2.2.2.2.2.1 sy.2.2.2.2.2.2.2.1 sy.2.2.2.2.2.2.2.2.1 sy.2.2.2.2.2.2.2.2.2.1 sy.2.2.2.2.2.2.2.2.2.2.1 sy.2.2.2.2.2.2.2.2.2.2.2.1 sy.2.2.2.2.2.2.2.2.2.2.2.2 tv tt tg yp yh)) := by
    by_cases hf : f = 0
    · subst hf
      obtain ⟨M, hM⟩ := h1 rfl
      obtain ⟨f2, sx2, sy2, h2, hX2, hY2⟩ := go_loop (xT := nI T) (xC := nI C) (xG := 0) (xS := xS) (xK := xK) (xI := xI) (ka := ka) (kf := kf) (nu := nu) (rs := rs) (xd := xd) (xm := xm) (xz := xz) (xu := xu) (xe := xe) (xc := xc) (xf := xf) (yW := yW) (yO := yO) (yw := yw) (tv := tv) (tt := tt) (tg := tg) (yp := yp) (yh := yh) hA hS hB hL (nI z) (M + 1) M sx sy (by omega) hM
      obtain ⟨r, u, v, hI, hX3, hY3⟩ := ra_end (k := k + 7) F (yW := yW) (yO := yO) (nu := nu) (rs := rs) (xS := xS) (xd := xd) (xm := xm) (xe := xe) (xf := xf) (yw := yw) (tv := tv) (tt := tt) (tg := tg) (yp := yp) (yh := yh) hz f2 sx2 sy2 h2
      exact ⟨r, u, v, hI, fun post h => hX2 post (hX3 post h), fun post h => hY2 post (hY3 post h)⟩
    · obtain ⟨r, u, v, hI, hX3, hY3⟩ := ra_end (k := k + 7) F (yW := yW) (yO := yO) (nu := nu) (rs := rs) (xS := xS) (xd := xd) (xm := xm) (xe := xe) (xf := xf) (yw := yw) (tv := tv) (tt := tt) (tg := tg) (yp := yp) (yh := yh) hz f sx sy (fun h => absurd h hf)
      exact ⟨r, u, v, hI, fun post h => ⟨1, br_f hf (hX3 post h)⟩, fun post h => ⟨1, br_c (fun _ => hY3 post h) (fun _ => br_f hf (hY3 post h))⟩⟩
  obtain ⟨r, u, v, hI, hX2, hY2⟩ := J
  refine xf_isType_y hT hw (br_f (by decide) (xf_isType_y hT hz (br_f (by decide) ?_)))
  unfold wpX_restart
  refine hX _ (hX2 _ ?_)
  exact yf_isT_y hT hw (br_f (by decide) (yf_isT_y hT hz (br_f (by decide) (hY _ (hY2 _ ⟨rfl, hI⟩)))))
end
end
section
section
variable {xT xL xC xG xV xA xF xD xN xS xK xI yW yV yD yR yA yF yO : Int32} {kk kb kp kn ki ka kh kd kf xb vt va ve xo xt xp xl xd xm xz xu xe xc xf kg yb yw yt ys yc yl yn yo ym yf tv tt tg yp yh : Nat → Int32} {nu rs vn yv : Nat → Int64}
variable {D B P I bb : Nat → Nat} {T L C N d p t : Nat}
/-! bytes are put, both sides -/
theorem pb_and1 (u : Int64) : u &&& (-1) = u := by
  apply Int64.toBitVec_inj.mp
  rw [Int64.toBitVec_and]
  have e : (-1 : Int64).toBitVec = BitVec.allOnes 64 := by decide
  rw [e, BitVec.and_allOnes]
theorem pb_lo (u : Int64) : (u &&& (-128)) = 0 ↔ u.toBitVec.toNat < 128 := by
  have h := cr_mask u (-1) 127 7 (by decide)
  have e : (-1 : Int64) &&& ((127 : Int64) ^^^ (-1)) = -128 := by decide
  rw [pb_and1, e] at h
  exact h
theorem pb_low {u : Int64} (h : (u &&& (-128)) = 0) : ∃ c, c < 128 ∧ u.toInt32 = nI c := by
  obtain ⟨n, hn, rfl⟩ := wb_of u
  have := (pb_lo _).mp h
  rw [wb_tn hn] at this
  exact ⟨n, this, lN_i n⟩
theorem pb_tab : ∀ c, c < 128 → (nI c ||| 128).toInt8.toInt32 &&& 255 = nI (c + 128) := by decide +kernel
theorem pb_hi (u : Int64) : ∃ c, c < 256 ∧ (((u.toInt32 &&& 127) ||| 128).toInt8.toInt32 &&& 255) = nI c ∧ ((u &&& 127).toInt32 + 128) = nI c := by
  obtain ⟨n, hn, rfl⟩ := wb_of u
  have e1 : (lN n).toInt32 &&& 127 = nI (n % 128) := by
    rw [pk_and _ (m := 127) 7 (by decide)]
    have : (lN n).toInt32.toBitVec.toNat % 2 ^ 7 = n % 128 := by
      rw [lN_i]
      show (BitVec.ofNat 32 n).toNat % 2 ^ 7 = n % 128
      rw [BitVec.toNat_ofNat]
      omega
    rw [this]
  have e2 : lN n &&& 127 = lN (n % 128) := wb_mask (k := 7) hn (by omega)
  refine ⟨n % 128 + 128, by omega, ?_, ?_⟩
  · rw [e1]; exact pb_tab _ (by omega)
  · rw [e2, lN_i]; exact nI_add _ 128
theorem pb_dec {u : Int64} (h : ¬ (u &&& (-128)) = 0) : uN ((u.toUInt64 >>> ((7 : Int32).toInt64.toUInt64 &&& Int64.toUInt64 63)).toInt64) < uN u := by
  have e := uN_sk u (k := 7) (by omega)
  have h1 : ¬ u.toBitVec.toNat < 128 := fun q => h ((pb_lo u).mpr q)
  have h2 : uN u = u.toBitVec.toNat := rfl
  have e' : uN ((u.toUInt64 >>> ((7 : Int32).toInt64.toUInt64 &&& Int64.toUInt64 63)).toInt64) = uN u / 2 ^ 7 := e
  rw [e']
  omega
/-- what is made: how much, the fault, X's and Y's rows -/
abbrev pt_Z : Type := Nat × Int32 × (Nat → Int32) × (Nat → Int32)
def pt_ok (Z : pt_Z) : Prop := Z.1 ≤ 100 ∧ ∀ j, j < Z.1 → ∃ c, c < 256 ∧ Z.2.2.1 j &&& 255 = nI c ∧ Z.2.2.2 j = nI c
def pt (Z : pt_Z) (x y : Int32) : pt_Z := if Z.2.1 = 0 then (if Z.1 = 100 then (100, -7, Z.2.2.1, Z.2.2.2) else (Z.1 + 1, 0, upd Z.2.2.1 Z.1 x.toInt8.toInt32, upd Z.2.2.2 Z.1 y)) else Z
theorem pt_id {Z : pt_Z} (h : ¬ Z.2.1 = 0) (x y : Int32) : pt Z x y = Z := by unfold pt; rw [if_neg h]
theorem pt_k {Z : pt_Z} (h : pt_ok Z) {x y : Int32} {c : Nat} (hc : c < 256) (hx : x.toInt8.toInt32 &&& 255 = nI c) (hy : y = nI c) : pt_ok (pt Z x y) := by
  obtain ⟨h1, h2⟩ := h
  unfold pt
  split
  · split
    · rename_i e
      exact ⟨Nat.le_refl _, fun j hj => h2 j (by rw [e]; exact hj)⟩
    · refine ⟨by show Z.1 + 1 ≤ 100; omega, fun j (hj : j < Z.1 + 1) => ?_⟩
      by_cases e : j = Z.1
      · refine ⟨c, hc, ?_, ?_⟩
        · show upd Z.2.2.1 Z.1 x.toInt8.toInt32 j &&& 255 = nI c
          rw [e, ba_us]; exact hx
        · show upd Z.2.2.2 Z.1 y j = nI c
          rw [e, ba_us]; exact hy
      · obtain ⟨c', c1, c2, c3⟩ := h2 j (by omega)
        refine ⟨c', c1, ?_, ?_⟩
        · show upd Z.2.2.1 Z.1 x.toInt8.toInt32 j &&& 255 = nI c'
          rw [ba_un e]; exact c2
        · show upd Z.2.2.2 Z.1 y j = nI c'
          rw [ba_un e]; exact c3
  · exact ⟨h1, h2⟩
theorem px_put {Z : pt_Z} (h : pt_ok Z) {x y : Int32} {post : SX → Prop} (k : post (xT, xL, xC, xG, xV, xA, (pt Z x y).2.1, xD, xN, nI (pt Z x y).1, xK, xI, kk, kb, kp, kn, ki, ka, kh, kd, kf, xb, nu, rs, vt, vn, va, ve, xo, xt, xp, xl, xd, (pt Z x y).2.2.1, xz, xu, xe, xc, xf)) : (wpX_put post (xT, xL, xC, xG, xV, xA, Z.2.1, xD, xN, nI Z.1, xK, xI, kk, kb, kp, kn, ki, ka, kh, kd, kf, xb, nu, rs, vt, vn, va, ve, xo, xt, xp, xl, xd, Z.2.2.1, xz, xu, xe, xc, xf) x) := by
  obtain ⟨z, f, a, b⟩ := Z
  obtain ⟨h1, -⟩ := h
  dsimp only at h1 k ⊢
  by_cases e : f = 0
  · subst e
    by_cases e1 : z = 100
    · subst e1
      exact xf_put_f k
    · have eg : pt (z, 0, a, b) x y = (z + 1, 0, upd a z x.toInt8.toInt32, upd b z y) := by
        unfold pt
        rw [if_pos rfl, if_neg e1]
      rw [eg] at k
      exact xf_put (by omega) k
  · rw [pt_id e] at k
    exact xf_put_n e k
theorem py_put {Z : pt_Z} (h : pt_ok Z) {x y : Int32} {post : SY → Prop} (k : post (xT, xL, nI (pt Z x y).1, xC, xG, yV, yD, yR, yA, (pt Z x y).2.1, yO, kk, kb, kp, kf, kn, ki, ka, kg, kh, yb, (pt Z x y).2.2.2, nu, rs, yt, ys, yc, yl, yn, yv, yo, ym, yf, tv, tt, tg, yp, yh)) : (wpY_put post (xT, xL, nI Z.1, xC, xG, yV, yD, yR, yA, Z.2.1, yO, kk, kb, kp, kf, kn, ki, ka, kg, kh, yb, Z.2.2.2, nu, rs, yt, ys, yc, yl, yn, yv, yo, ym, yf, tv, tt, tg, yp, yh) y) := by
  obtain ⟨z, f, a, b⟩ := Z
  obtain ⟨h1, -⟩ := h
  dsimp only at h1 k ⊢
  by_cases e : f = 0
  · subst e
    by_cases e1 : z = 100
    · subst e1
      exact yf_put_f k
    · have eg : pt (z, 0, a, b) x y = (z + 1, 0, upd a z x.toInt8.toInt32, upd b z y) := by
        unfold pt
        rw [if_pos rfl, if_neg e1]
      rw [eg] at k
      exact yf_put (by omega) k
  · rw [pt_id e] at k
    exact yf_put_n e k
/-- a long is put, whatever else the states hold -/
def pl_X (Z : pt_Z) (u : Int64) (Z' : pt_Z) : Prop :=
  ∀ (xT xL xC xG xV xA xD xN xK xI : Int32) (kk kb kp kn ki ka kh kd kf xb vt va ve xo xt xp xl xd xz xu xe xc xf : Nat → Int32) (nu rs vn : Nat → Int64), ∀ post : SX → Prop, post (xT, xL, xC, xG, xV, xA, Z'.2.1, xD, xN, nI Z'.1, xK, xI, kk, kb, kp, kn, ki, ka, kh, kd, kf, xb, nu, rs, vt, vn, va, ve, xo, xt, xp, xl, xd, Z'.2.2.1, xz, xu, xe, xc, xf) → (wpX_putLong post (xT, xL, xC, xG, xV, xA, Z.2.1, xD, xN, nI Z.1, xK, xI, kk, kb, kp, kn, ki, ka, kh, kd, kf, xb, nu, rs, vt, vn, va, ve, xo, xt, xp, xl, xd, Z.2.2.1, xz, xu, xe, xc, xf) u)
def pl_Y (Z : pt_Z) (u : Int64) (Z' : pt_Z) : Prop :=
  ∀ (xT xL xC xG yV yD yR yA yO : Int32) (kk kb kp kf kn ki ka kg kh yb yt ys yc yl yn yo ym yf tv tt tg yp yh : Nat → Int32) (nu rs yv : Nat → Int64), ∀ post : SY → Prop, post (xT, xL, nI Z'.1, xC, xG, yV, yD, yR, yA, Z'.2.1, yO, kk, kb, kp, kf, kn, ki, ka, kg, kh, yb, Z'.2.2.2, nu, rs, yt, ys, yc, yl, yn, yv, yo, ym, yf, tv, tt, tg, yp, yh) → (wpY_putLong post (xT, xL, nI Z.1, xC, xG, yV, yD, yR, yA, Z.2.1, yO, kk, kb, kp, kf, kn, ki, ka, kg, kh, yb, Z.2.2.2, nu, rs, yt, ys, yc, yl, yn, yv, yo, ym, yf, tv, tt, tg, yp, yh) u)
theorem pl_loop : ∀ (m : Nat) (u : Int64) (Z : pt_Z), uN u < m → pt_ok Z → ∃ Z' : pt_Z, pt_ok Z' ∧ (¬ Z.2.1 = 0 → Z' = Z)
    ∧ (∀ (xT xL xC xG xV xA xD xN xK xI : Int32) (kk kb kp kn ki ka kh kd kf xb vt va ve xo xt xp xl xd xz xu xe xc xf : Nat → Int32) (nu rs vn : Nat → Int64), ∀ post : SX → Prop, post (xT, xL, xC, xG, xV, xA, Z'.2.1, xD, xN, nI Z'.1, xK, xI, kk, kb, kp, kn, ki, ka, kh, kd, kf, xb, nu, rs, vt, vn, va, ve, xo, xt, xp, xl, xd, Z'.2.2.1, xz, xu, xe, xc, xf) → ∃ n, (wX_putLong_9 post n u xT xL xC xG xV xA Z.2.1 xD xN (nI Z.1) xK xI kk kb kp kn ki ka kh kd kf xb nu rs vt vn va ve xo xt xp xl xd Z.2.2.1 xz xu xe xc xf))
    ∧ (∀ (xT xL xC xG yV yD yR yA yO : Int32) (kk kb kp kf kn ki ka kg kh yb yt ys yc yl yn yo ym yf tv tt tg yp yh : Nat → Int32) (nu rs yv : Nat → Int64), ∀ post : SY → Prop, post (xT, xL, nI Z'.1, xC, xG, yV, yD, yR, yA, Z'.2.1, yO, kk, kb, kp, kf, kn, ki, ka, kg, kh, yb, Z'.2.2.2, nu, rs, yt, ys, yc, yl, yn, yv, yo, ym, yf, tv, tt, tg, yp, yh) → ∃ n, (wY_putLong_9 post n u xT xL (nI Z.1) xC xG yV yD yR yA Z.2.1 yO kk kb kp kf kn ki ka kg kh yb Z.2.2.2 nu rs yt ys yc yl yn yv yo ym yf tv tt tg yp yh)) := by
  intro m
  induction m with
  | zero => intro u Z h; omega
  | succ m ih =>
    intro u Z hm hZ
    by_cases z : (u &&& (-128)) = 0
    · obtain ⟨c, c1, c2⟩ := pb_low z
      have hx : u.toInt32.toInt8.toInt32 &&& 255 = nI c := by rw [c2]; exact by_n (by omega)
      refine ⟨pt Z u.toInt32 u.toInt32, pt_k hZ (by omega) hx c2, fun h => pt_id h _ _, ?_, ?_⟩
      · intro xT xL xC xG xV xA xD xN xK xI kk kb kp kn ki ka kh kd kf xb vt va ve xo xt xp xl xd xz xu xe xc xf nu rs vn post k
        exact ⟨1, br_t z (px_put hZ k)⟩
      · intro xT xL xC xG yV yD yR yA yO kk kb kp kf kn ki ka kg kh yb yt ys yc yl yn yo ym yf tv tt tg yp yh nu rs yv post k
        exact ⟨1, br_t z (py_put hZ k)⟩
    · obtain ⟨c, c1, c2, c3⟩ := pb_hi u
      have hd := pb_dec z
      have hZ1 := pt_k hZ c1 c2 c3
      obtain ⟨Z', hZ', hid, hX, hY⟩ := ih ((u.toUInt64 >>> ((7 : Int32).toInt64.toUInt64 &&& Int64.toUInt64 63)).toInt64) _ (by omega) hZ1
      refine ⟨Z', hZ', fun h => ?_, ?_, ?_⟩
      · rw [pt_id h] at hid
        exact hid h
      · intro xT xL xC xG xV xA xD xN xK xI kk kb kp kn ki ka kh kd kf xb vt va ve xo xt xp xl xd xz xu xe xc xf nu rs vn post k
        obtain ⟨n, hn⟩ := hX xT xL xC xG xV xA xD xN xK xI kk kb kp kn ki ka kh kd kf xb vt va ve xo xt xp xl xd xz xu xe xc xf nu rs vn post k
        exact ⟨n + 1, br_f z (px_put hZ (nm_e hn))⟩
      · intro xT xL xC xG yV yD yR yA yO kk kb kp kf kn ki ka kg kh yb yt ys yc yl yn yo ym yf tv tt tg yp yh nu rs yv post k
        obtain ⟨n, hn⟩ := hY xT xL xC xG yV yD yR yA yO kk kb kp kf kn ki ka kg kh yb yt ys yc yl yn yo ym yf tv tt tg yp yh nu rs yv post k
        exact ⟨n + 1, br_f z (py_put hZ (nm_e hn))⟩
theorem pl_main {Z : pt_Z} (hZ : pt_ok Z) (u : Int64) : ∃ Z' : pt_Z, pt_ok Z' ∧ (¬ Z.2.1 = 0 → Z' = Z) ∧ pl_X Z u Z' ∧ pl_Y Z u Z' := by
  obtain ⟨Z', h1, h2, hX, hY⟩ := pl_loop _ ((u <<< ((1 : Int32).toInt64 &&& 63)) ^^^ (u >>> ((63 : Int32).toInt64 &&& 63))) Z (Nat.lt_succ_self _) hZ
  refine ⟨Z', h1, h2, ?_, ?_⟩
  · unfold pl_X
    intro xT xL xC xG xV xA xD xN xK xI kk kb kp kn ki ka kh kd kf xb vt va ve xo xt xp xl xd xz xu xe xc xf nu rs vn post k
    exact nm_e (hX xT xL xC xG xV xA xD xN xK xI kk kb kp kn ki ka kh kd kf xb vt va ve xo xt xp xl xd xz xu xe xc xf nu rs vn post k)
  · unfold pl_Y
    intro xT xL xC xG yV yD yR yA yO kk kb kp kf kn ki ka kg kh yb yt ys yc yl yn yo ym yf tv tt tg yp yh nu rs yv post k
    exact nm_e (hY xT xL xC xG yV yD yR yA yO kk kb kp kf kn ki ka kg kh yb yt ys yc yl yn yo ym yf tv tt tg yp yh nu rs yv post k)
/-! numbers are taken -/
/-- the next number within bounds: what comes, where it goes on, the fault -/
def nd_r (nu : Nat → Int64) (C p : Nat) (a b : Int64) : Int64 × Nat × Int32 := if p = C then (0, p, -2) else if nu p < a ∨ ¬ nu p ≤ b then (nu p, p + 1, -3) else (nu p, p + 1, 0)
theorem nd_x {a b : Int64} (hp : p ≤ C) (hC : C ≤ 100) {post : Int64 → SX → Prop} (k : post (nd_r nu C p a b).1 (xT, xL, nI C, xG, xV, nI (nd_r nu C p a b).2.1, (nd_r nu C p a b).2.2, xD, xN, xS, xK, xI, kk, kb, kp, kn, ki, ka, kh, kd, kf, xb, nu, rs, vt, vn, va, ve, xo, xt, xp, xl, xd, xm, xz, xu, xe, xc, xf)) : (wpX_checked post (xT, xL, nI C, xG, xV, nI p, 0, xD, xN, xS, xK, xI, kk, kb, kp, kn, ki, ka, kh, kd, kf, xb, nu, rs, vt, vn, va, ve, xo, xt, xp, xl, xd, xm, xz, xu, xe, xc, xf) a b) := by
  unfold wpX_checked
  unfold nd_r at k
  by_cases e : p = C
  · rw [if_pos e] at k
    subst e
    exact xf_nn_s (br_f (by decide) k)
  · rw [if_neg e] at k
    refine xf_nn (by omega) hC (br_t rfl ?_)
    by_cases z : nu p < a ∨ ¬ nu p ≤ b
    · rw [if_pos z] at k
      exact xf_wi_b z k
    · rw [if_neg z] at k
      exact xf_wi (fun q => z (Or.inl q)) (Classical.byContradiction fun q => z (Or.inr q)) k
theorem nd_y {a b : Int64} (hp : p ≤ C) (hC : C ≤ 100) {post : Int64 → SY → Prop} (k : post (nd_r nu C p a b).1 (xT, xL, yW, nI C, xG, yV, yD, yR, nI (nd_r nu C p a b).2.1, (nd_r nu C p a b).2.2, yO, kk, kb, kp, kf, kn, ki, ka, kg, kh, yb, yw, nu, rs, yt, ys, yc, yl, yn, yv, yo, ym, yf, tv, tt, tg, yp, yh)) : (wpY_need post (xT, xL, yW, nI C, xG, yV, yD, yR, nI p, 0, yO, kk, kb, kp, kf, kn, ki, ka, kg, kh, yb, yw, nu, rs, yt, ys, yc, yl, yn, yv, yo, ym, yf, tv, tt, tg, yp, yh) a b) := by
  unfold nd_r at k
  by_cases e : p = C
  · rw [if_pos e] at k
    subst e
    exact br_t rfl (br_t rfl (br_f (by decide) k))
  · rw [if_neg e] at k
    refine br_t rfl (br_f (fun q => e (ba_inj q (by omega) (by omega))) (br_t rfl ⟨vp_in_nI (by omega) (by decide), nm_r (e' := nu p) (by rw [nI_clamp (by omega)]) (nm_r (nI_1 p) ?_)⟩))
    by_cases z1 : nu p < a
    · rw [if_pos (Or.inl z1)] at k
      exact br_t z1 k
    · refine br_f z1 ?_
      by_cases z2 : nu p ≤ b
      · rw [if_neg (fun q => q.elim z1 (fun y => y z2))] at k
        exact br_t z2 k
      · rw [if_pos (Or.inr z2)] at k
        exact br_f z2 k
theorem nd_yn {a b : Int64} (h : ¬ yF = 0) {post : Int64 → SY → Prop} (k : post 0 (xT, xL, yW, xC, xG, yV, yD, yR, yA, yF, yO, kk, kb, kp, kf, kn, ki, ka, kg, kh, yb, yw, nu, rs, yt, ys, yc, yl, yn, yv, yo, ym, yf, tv, tt, tg, yp, yh)) : (wpY_need post (xT, xL, yW, xC, xG, yV, yD, yR, yA, yF, yO, kk, kb, kp, kf, kn, ki, ka, kg, kh, yb, yw, nu, rs, yt, ys, yc, yl, yn, yv, yo, ym, yf, tv, tt, tg, yp, yh) a b) := br_f h (br_f h k)
theorem nd_c {a b : Int64} (hp : p ≤ C) : (nd_r nu C p a b).2.1 ≤ C ∧ ((nd_r nu C p a b).2.2 = 0 → ¬ (nd_r nu C p a b).1 < a ∧ (nd_r nu C p a b).1 ≤ b) := by
  unfold nd_r
  split
  · exact ⟨hp, fun q => absurd q (by show ¬ (-2 : Int32) = 0; decide)⟩
  · split
    · exact ⟨by show p + 1 ≤ C; omega, fun q => absurd q (by show ¬ (-3 : Int32) = 0; decide)⟩
    · rename_i e z
      exact ⟨by show p + 1 ≤ C; omega, fun _ => ⟨fun q => z (Or.inl q), Classical.byContradiction fun q => z (Or.inr q)⟩⟩
end
end
section
section
variable {xT xL xC xG xV xA xF xD xN xS xK xI yW yV yD yR yA yF yO : Int32} {kk kb kp kn ki ka kh kd kf xb vt va ve xo xt xp xl xd xm xz xu xe xc xf kg yb yw yt ys yc yl yn yo ym yf tv tt tg yp yh : Nat → Int32} {nu rs vn yv : Nat → Int64}
variable {D B P I bb : Nat → Nat} {T L C N d p t : Nat}
theorem bs_v {v : Int64} {m : Nat} (hm : m < 2 ^ 31) (h0 : ¬ v < 0) (h1 : v ≤ lN m) : ∃ c, c ≤ m ∧ v = lN c := by
  obtain ⟨c, hc, rfl⟩ := pk_lOf h0
  rw [pk_lLE hc (by omega)] at h1
  exact ⟨c, h1, rfl⟩
/-- bytes are put: X's loop and Y's -/
def bs_X (nu : Nat → Int64) (C M i p : Nat) (Z : pt_Z) (p' : Nat) (Z' : pt_Z) : Prop :=
  ∀ (xT xL xG xV xD xN xK xI : Int32) (kk kb kp kn ki ka kh kd kf xb vt va ve xo xt xp xl xd xz xu xe xc xf : Nat → Int32) (rs vn : Nat → Int64), ∀ post : SX → Prop, post (xT, xL, nI C, xG, xV, nI p', Z'.2.1, xD, xN, nI Z'.1, xK, xI, kk, kb, kp, kn, ki, ka, kh, kd, kf, xb, nu, rs, vt, vn, va, ve, xo, xt, xp, xl, xd, Z'.2.2.1, xz, xu, xe, xc, xf) → ∃ n, (wX_putBytes_2 post (nI M) n (nI i) xT xL (nI C) xG xV (nI p) Z.2.1 xD xN (nI Z.1) xK xI kk kb kp kn ki ka kh kd kf xb nu rs vt vn va ve xo xt xp xl xd Z.2.2.1 xz xu xe xc xf)
def bs_Y (nu : Nat → Int64) (C M i p : Nat) (Z : pt_Z) (p' : Nat) (Z' : pt_Z) : Prop :=
  ∀ (c : Nat) (x1 : Int32) (x3 : Int64), c = 4 ∨ c = 6 → ∀ (xT xL xG yV yD yR yO : Int32) (kk kb kp kf kn ki ka kg kh yb yt ys yc yl yn yo ym yf tv tt tg yp yh : Nat → Int32) (rs yv : Nat → Int64), ∀ post : SY → Prop, post (xT, xL, nI Z'.1, nI C, xG, yV, yD, yR, nI p', Z'.2.1, yO, kk, kb, kp, kf, kn, ki, ka, kg, kh, yb, Z'.2.2.2, nu, rs, yt, ys, yc, yl, yn, yv, yo, ym, yf, tv, tt, tg, yp, yh) → ∃ n, (wY_compose_307 post x1 (nI c) x3 (nI M) n (nI i) xT xL (nI Z.1) (nI C) xG yV yD yR (nI p) Z.2.1 yO kk kb kp kf kn ki ka kg kh yb Z.2.2.2 nu rs yt ys yc yl yn yv yo ym yf tv tt tg yp yh)
theorem bs_yend {c : Nat} {x1 : Int32} {x3 : Int64} (hc : c = 4 ∨ c = 6) {x5 x6 : Int32} {n : Nat} (h : x5 ≤ x6) {post : SY → Prop} (k : post (xT, xL, yW, xC, xG, yV, yD, yR, yA, yF, yO, kk, kb, kp, kf, kn, ki, ka, kg, kh, yb, yw, nu, rs, yt, ys, yc, yl, yn, yv, yo, ym, yf, tv, tt, tg, yp, yh)) : (wY_compose_307 post x1 (nI c) x3 x5 (n + 1) x6 xT xL yW xC xG yV yD yR yA yF yO kk kb kp kf kn ki ka kg kh yb yw nu rs yt ys yc yl yn yv yo ym yf tv tt tg yp yh) := by
  have n9 : ¬ nI c = 9 := by rcases hc with e | e <;> rw [e] <;> decide
  have n7 : ¬ 7 ≤ nI c := by rcases hc with e | e <;> rw [e] <;> decide
  exact br_t h (br_f n9 (br_f n7 k))
theorem bs_loop (hC : C ≤ 100) {M : Nat} (hM : M ≤ 20) : ∀ (m i p : Nat) (Z : pt_Z), i + m = M → p ≤ C → pt_ok Z → ∃ (p' : Nat) (Z' : pt_Z), p' ≤ C ∧ pt_ok Z' ∧ bs_X nu C M i p Z p' Z' ∧ bs_Y nu C M i p Z p' Z' := by
  intro m
  induction m with
  | zero =>
    intro i p Z hi hp hZ
    refine ⟨p, Z, hp, hZ, ?_, ?_⟩
    · unfold bs_X
      intro xT xL xG xV xD xN xK xI kk kb kp kn ki ka kh kd kf xb vt va ve xo xt xp xl xd xz xu xe xc xf rs vn post k
      exact ⟨1, br_t (nI_le (by omega) (by omega)) k⟩
    · unfold bs_Y
      intro c x1 x3 hc xT xL xG yV yD yR yO kk kb kp kf kn ki ka kg kh yb yt ys yc yl yn yo ym yf tv tt tg yp yh rs yv post k
      exact ⟨1, bs_yend hc (nI_le (by omega) (by omega)) k⟩
  | succ m ih =>
    intro i p Z hi hp hZ
    have lt : ¬ nI M ≤ nI i := nI_ge (by omega) (by omega)
    by_cases f0 : Z.2.1 = 0
    · obtain ⟨c1, c2⟩ := nd_c (nu := nu) (C := C) (a := 0) (b := 255) hp
      have hZ2 : pt_ok (pt (Z.1, (nd_r nu C p 0 255).2.2, Z.2.2) (nd_r nu C p 0 255).1.toInt32 (nd_r nu C p 0 255).1.toInt32) := by
        have hZ1 : pt_ok (Z.1, (nd_r nu C p 0 255).2.2, Z.2.2) := hZ
        by_cases e : (nd_r nu C p 0 255).2.2 = 0
        · obtain ⟨v1, v2⟩ := c2 e
          obtain ⟨c, hc, hv⟩ := bs_v (m := 255) (by omega) v1 v2
          have e1 : (nd_r nu C p 0 255).1.toInt32 = nI c := by rw [hv, lN_i]
          exact pt_k (c := c) hZ1 (by omega) (by rw [e1]; exact by_n (by omega)) e1
        · rw [pt_id e]; exact hZ1
      obtain ⟨p', Z', h1, h2, hX, hY⟩ := ih (i + 1) (nd_r nu C p 0 255).2.1 _ (by omega) c1 hZ2
      have hZ1 : pt_ok (Z.1, (nd_r nu C p 0 255).2.2, Z.2.2) := hZ
      refine ⟨p', Z', h1, h2, ?_, ?_⟩
      · unfold bs_X at hX ⊢
        intro xT xL xG xV xD xN xK xI kk kb kp kn ki ka kh kd kf xb vt va ve xo xt xp xl xd xz xu xe xc xf rs vn post k
        obtain ⟨n, hn⟩ := hX xT xL xG xV xD xN xK xI kk kb kp kn ki ka kh kd kf xb vt va ve xo xt xp xl xd xz xu xe xc xf rs vn post k
        refine ⟨n + 1, br_f lt (br_t f0 ?_)⟩
        rw [f0]
        exact nd_x hp hC (px_put (Z := (Z.1, (nd_r nu C p 0 255).2.2, Z.2.2)) hZ1 (nm_r (nI_1 i) hn))
      · unfold bs_Y at hY ⊢
        intro c x1 x3 hc xT xL xG yV yD yR yO kk kb kp kf kn ki ka kg kh yb yt ys yc yl yn yo ym yf tv tt tg yp yh rs yv post k
        obtain ⟨n, hn⟩ := hY c x1 x3 hc xT xL xG yV yD yR yO kk kb kp kf kn ki ka kg kh yb yt ys yc yl yn yo ym yf tv tt tg yp yh rs yv post k
        refine ⟨n + 1, br_f lt ?_⟩
        rw [f0]
        exact nd_y hp hC (py_put (Z := (Z.1, (nd_r nu C p 0 255).2.2, Z.2.2)) (x := (nd_r nu C p 0 255).1.toInt32) hZ1 (nm_r (nI_1 i) hn))
    · refine ⟨p, Z, hp, hZ, ?_, ?_⟩
      · unfold bs_X
        intro xT xL xG xV xD xN xK xI kk kb kp kn ki ka kh kd kf xb vt va ve xo xt xp xl xd xz xu xe xc xf rs vn post k
        exact ⟨1, br_f lt (br_f f0 k)⟩
      · unfold bs_Y
        intro c x1 x3 hc xT xL xG yV yD yR yO kk kb kp kf kn ki ka kg kh yb yt ys yc yl yn yo ym yf tv tt tg yp yh rs yv post k
        have Q : ∀ m i, i + m = M → ∃ n, (wY_compose_307 post x1 (nI c) x3 (nI M) n (nI i) xT xL (nI Z.1) (nI C) xG yV yD yR (nI p) Z.2.1 yO kk kb kp kf kn ki ka kg kh yb Z.2.2.2 nu rs yt ys yc yl yn yv yo ym yf tv tt tg yp yh) := by
          intro m
          induction m with
          | zero => intro i hi; exact ⟨1, bs_yend hc (nI_le (by omega) (by omega)) k⟩
          | succ m ih =>
            intro i hi
            obtain ⟨n, hn⟩ := ih (i + 1) (by omega)
            refine ⟨n + 1, br_f (nI_ge (by omega) (by omega)) (nd_yn f0 (yf_put_n f0 (nm_r (nI_1 i) hn)))⟩
        exact Q (m + 1) i hi
end
end
section
section
variable {xT xL xC xG xV xA xF xD xN xS xK xI yW yV yD yR yA yF yO : Int32} {kk kb kp kn ki ka kh kd kf xb vt va ve xo xt xp xl xd xm xz xu xe xc xf kg yb yw yt ys yc yl yn yo ym yf tv tt tg yp yh : Nat → Int32} {nu rs vn yv : Nat → Int64}
variable {D B P I bb : Nat → Nat} {T L C N d p t : Nat}
abbrev wr_SX : Type := Int32 × Int32 × Int32 × Int32 × Int32 × (Nat → Int32) × (Nat → Int32) × (Nat → Int32) × (Nat → Int32) × (Nat → Int32)
abbrev wr_SY : Type := Int32 × Int32 × Int32 × Int32 × Int32 × (Nat → Int32) × (Nat → Int32) × (Nat → Int32) × (Nat → Int32)
/-- what is not done while writing: one of it -/
def wr_E (T : Nat) (D P : Nat → Nat) (t : Nat) (xoi xti xpi xli yoi ymi yfi : Int32) : Prop :=
  t < T ∧ 7 ≤ D t ∧ xti = nI t ∧ yoi = nI t ∧ (D t = 7 → ∃ l, l ≤ 40 ∧ xli = nI l ∧ yfi = nI l)
  ∧ (D t = 8 → (xpi = 0 ∧ yfi = 1 ∧ ∃ m, m < P t ∧ xoi = nI m ∧ ymi = nI m) ∨ (xpi = 1 ∧ yfi = 0)) ∧ (D t = 9 → ∃ k, k ≤ P t ∧ xpi = nI k ∧ ymi = nI k ∧ yfi = nI (P t - k))
def wr_S (T : Nat) (D P : Nat → Nat) (d : Nat) (xo xt xp xl yo ym yf : Nat → Int32) : Prop := ∀ i, i < d → ∃ t, wr_E T D P t (xo i) (xt i) (xp i) (xl i) (yo i) (ym i) (yf i)
/-- writing is under way, and well -/
def wr_G (T C : Nat) (D P : Nat → Nat) (M : Nat) (sx : wr_SX) (sy : wr_SY) : Prop :=
  ∃ N d p z : Nat, N ≤ 400 ∧ d ≤ N ∧ p ≤ C ∧ M = 2 * (400 - N) + d ∧ pt_ok (z, 0, sx.2.2.2.2.2.2.2.2.2, sy.2.2.2.2.2.1) ∧ wr_S T D P d sx.2.2.2.2.2.1 sx.2.2.2.2.2.2.1 sx.2.2.2.2.2.2.2.1 sx.2.2.2.2.2.2.2.2.1 sy.2.2.2.2.2.2.1 sy.2.2.2.2.2.2.2.1 sy.2.2.2.2.2.2.2.2
    ∧ sx.1 = nI N ∧ sx.2.1 = nI p ∧ sx.2.2.1 = nI d ∧ sx.2.2.2.2.1 = nI z ∧ sy.1 = nI z ∧ sy.2.1 = nI N ∧ sy.2.2.1 = nI d ∧ sy.2.2.2.2.1 = nI p ∧ sy.2.2.2.1 = sx.2.2.2.1
theorem wr_leaf (hN : N < 400) (hd : d ≤ N) {p : Nat} (hp : p ≤ C) (hS : wr_S T D P d xo xt xp xl yo ym yf) {Z : pt_Z} (hZ : pt_ok Z) : ∃ M, M < 2 * (400 - N) + d ∧ wr_G T C D P M (nI (N + 1), nI p, nI d, xN, nI Z.1, xo, xt, xp, xl, Z.2.2.1) (nI Z.1, nI (N + 1), nI d, xN, nI p, Z.2.2.2, yo, ym, yf) :=
  ⟨2 * (400 - (N + 1)) + d, by omega, N + 1, d, p, Z.1, by omega, by omega, hp, rfl, hZ, hS, rfl, rfl, rfl, rfl, rfl, rfl, rfl, rfl, rfl⟩
theorem wr_push (hN : N < 400) (hd : d ≤ N) {p : Nat} (hp : p ≤ C) (hS : wr_S T D P d xo xt xp xl yo ym yf) {Z : pt_Z} (hZ : pt_ok Z) {a b e f g h i n : Int32} (hE : wr_E T D P t a b e f g h i) : ∃ M, M < 2 * (400 - N) + d ∧ wr_G T C D P M (nI (N + 1), nI p, nI (d + 1), n, nI Z.1, upd xo d a, upd xt d b, upd xp d e, upd xl d f, Z.2.2.1) (nI Z.1, nI (N + 1), nI (d + 1), n, nI p, Z.2.2.2, upd yo d g, upd ym d h, upd yf d i) := by
  refine ⟨2 * (400 - (N + 1)) + (d + 1), by omega, N + 1, d + 1, p, Z.1, by omega, by omega, hp, rfl, hZ, ?_, rfl, rfl, rfl, rfl, rfl, rfl, rfl, rfl, rfl⟩
  intro j hj
  by_cases e : j = d
  · rw [e]
    dsimp only
    rw [ba_us, ba_us, ba_us, ba_us, ba_us, ba_us, ba_us]
    exact ⟨t, hE⟩
  · dsimp only
    rw [ba_un e, ba_un e, ba_un e, ba_un e, ba_un e, ba_un e, ba_un e]
    exact hS j (by omega)
/-! Y's compose: the way from the kinds' questions to what is put -/
theorem cy_181 {c : Nat} {x1 : Int32} {x3 : Int64} {post : SY → Prop} (hc : c ≤ 9) (h : ¬ c = 5) (k : (wY_compose_225 post x1 (nI c) x3 xT xL yW xC xG yV yD yR yA yF yO kk kb kp kf kn ki ka kg kh yb yw nu rs yt ys yc yl yn yv yo ym yf tv tt tg yp yh)) : (wY_compose_181 post x1 (nI c) x3 xT xL yW xC xG yV yD yR yA yF yO kk kb kp kf kn ki ka kg kh yb yw nu rs yt ys yc yl yn yv yo ym yf tv tt tg yp yh) := br_f (fun e => h ((ba_e5 (by omega)).mp e)) k
theorem cy_160 {c : Nat} {x1 : Int32} {x3 : Int64} {post : SY → Prop} (hc : c ≤ 9) (h : ¬ c = 5 ∧ ¬ c = 8) (k : (wY_compose_225 post x1 (nI c) x3 xT xL yW xC xG yV yD yR yA yF yO kk kb kp kf kn ki ka kg kh yb yw nu rs yt ys yc yl yn yv yo ym yf tv tt tg yp yh)) : (wY_compose_160 post x1 (nI c) x3 xT xL yW xC xG yV yD yR yA yF yO kk kb kp kf kn ki ka kg kh yb yw nu rs yt ys yc yl yn yv yo ym yf tv tt tg yp yh) := br_f (fun e => h.2 ((ba_e8 (by omega)).mp e)) (cy_181 hc h.1 k)
theorem cy_145 {c : Nat} {x1 : Int32} {x3 : Int64} {post : SY → Prop} (hc : c ≤ 9) (h : ¬ c = 5 ∧ ¬ c = 8 ∧ ¬ c = 7) (k : (wY_compose_225 post x1 (nI c) x3 xT xL yW xC xG yV yD yR yA yF yO kk kb kp kf kn ki ka kg kh yb yw nu rs yt ys yc yl yn yv yo ym yf tv tt tg yp yh)) : (wY_compose_145 post x1 (nI c) x3 xT xL yW xC xG yV yD yR yA yF yO kk kb kp kf kn ki ka kg kh yb yw nu rs yt ys yc yl yn yv yo ym yf tv tt tg yp yh) := br_f (fun e => h.2.2 ((ba_e7 (by omega)).mp e)) (cy_160 hc ⟨h.1, h.2.1⟩ k)
theorem cy_131 {c : Nat} {x1 : Int32} {x3 : Int64} {post : SY → Prop} (hc : c ≤ 9) (h : ¬ c = 5 ∧ ¬ c = 8 ∧ ¬ c = 7 ∧ ¬ c = 4) (k : (wY_compose_225 post x1 (nI c) x3 xT xL yW xC xG yV yD yR yA yF yO kk kb kp kf kn ki ka kg kh yb yw nu rs yt ys yc yl yn yv yo ym yf tv tt tg yp yh)) : (wY_compose_131 post x1 (nI c) x3 xT xL yW xC xG yV yD yR yA yF yO kk kb kp kf kn ki ka kg kh yb yw nu rs yt ys yc yl yn yv yo ym yf tv tt tg yp yh) := br_f (fun e => h.2.2.2 ((ba_e4 (by omega)).mp e)) (cy_145 hc ⟨h.1, h.2.1, h.2.2.1⟩ k)
theorem cy_115 {c : Nat} {x1 : Int32} {x3 : Int64} {post : SY → Prop} (hc : c ≤ 9) (h : ¬ c = 5 ∧ ¬ c = 8 ∧ ¬ c = 7 ∧ ¬ c = 4 ∧ ¬ c = 3) (k : (wY_compose_225 post x1 (nI c) x3 xT xL yW xC xG yV yD yR yA yF yO kk kb kp kf kn ki ka kg kh yb yw nu rs yt ys yc yl yn yv yo ym yf tv tt tg yp yh)) : (wY_compose_115 post x1 (nI c) x3 xT xL yW xC xG yV yD yR yA yF yO kk kb kp kf kn ki ka kg kh yb yw nu rs yt ys yc yl yn yv yo ym yf tv tt tg yp yh) := br_f (fun e => h.2.2.2.2 ((ba_e3 (by omega)).mp e)) (cy_131 hc ⟨h.1, h.2.1, h.2.2.1, h.2.2.2.1⟩ k)
theorem cy_99 {c : Nat} {x1 : Int32} {x3 : Int64} {post : SY → Prop} (hc : c ≤ 9) (h : ¬ c = 5 ∧ ¬ c = 8 ∧ ¬ c = 7 ∧ ¬ c = 4 ∧ ¬ c = 3 ∧ ¬ c = 2) (k : (wY_compose_225 post x1 (nI c) x3 xT xL yW xC xG yV yD yR yA yF yO kk kb kp kf kn ki ka kg kh yb yw nu rs yt ys yc yl yn yv yo ym yf tv tt tg yp yh)) : (wY_compose_99 post x1 (nI c) x3 xT xL yW xC xG yV yD yR yA yF yO kk kb kp kf kn ki ka kg kh yb yw nu rs yt ys yc yl yn yv yo ym yf tv tt tg yp yh) := br_f (fun e => h.2.2.2.2.2 ((ba_e2 (by omega)).mp e)) (cy_115 hc ⟨h.1, h.2.1, h.2.2.1, h.2.2.2.1, h.2.2.2.2.1⟩ k)
theorem cy_225w {c : Nat} {x1 : Int32} {x3 : Int64} {post : SY → Prop} (h : ¬ yF = 0) (k : post (xT, xL, yW, xC, xG, yV, yD, yR, yA, yF, yO, kk, kb, kp, kf, kn, ki, ka, kg, kh, yb, yw, nu, rs, yt, ys, yc, yl, yn, yv, yo, ym, yf, tv, tt, tg, yp, yh)) : (wY_compose_225 post x1 (nI c) x3 xT xL yW xC xG yV yD yR yA yF yO kk kb kp kf kn ki ka kg kh yb yw nu rs yt ys yc yl yn yv yo ym yf tv tt tg yp yh) := br_f h k
/-- the end of a kind without parts and without bytes -/
theorem cy_276 {c : Nat} {x1 : Int32} {x3 : Int64} {post : SY → Prop} (hc : c < 7) (h : ¬ c = 4 ∧ ¬ c = 6) (k : post (xT, xL, yW, xC, xG, yV, yD, yR, yA, yF, yO, kk, kb, kp, kf, kn, ki, ka, kg, kh, yb, yw, nu, rs, yt, ys, yc, yl, yn, yv, yo, ym, yf, tv, tt, tg, yp, yh)) : (wY_compose_276 post x1 (nI c) x3 xT xL yW xC xG yV yD yR yA yF yO kk kb kp kf kn ki ka kg kh yb yw nu rs yt ys yc yl yn yv yo ym yf tv tt tg yp yh) :=
  br_f (fun e => h.1 ((ba_e4 (by omega)).mp e)) (br_f (fun e => h.2 ((ba_e6 (by omega)).mp e)) (Exists.intro 1 (br_t (by decide) (br_f (fun e => by have := (ba_e9 (by omega)).mp e; omega) (br_f (fun e => by have := (ba_ge7 (by omega)).mp e; omega) k)))))
theorem cy_49 {c : Nat} (hA : sc_A D B P I kk kb kp ki) (ht : t < 20) (hc : D t = c) (h0 : ¬ c = 0) {N : Nat} {post : SY → Prop} (f0 : yF = 0) (k : (wY_compose_87 post (nI t) (nI c) 0 xT xL yW xC xG (nI (N + 1)) yD yR yA yF yO kk kb kp kf kn ki ka kg kh yb yw nu rs yt ys yc yl yn yv yo ym yf tv tt tg yp yh)) : (wY_compose_49 post (nI t) xT xL yW xC xG (nI N) yD yR yA yF yO kk kb kp kf kn ki ka kg kh yb yw nu rs yt ys yc yl yn yv yo ym yf tv tt tg yp yh) := by
  have h9 := sc_k9 hA t
  exact br_t f0 (nm_r (nI_1 N) ⟨vp_in_nI ht (by decide), nm_r (e' := nI c) (bg_ck hA ht hc) (br_f (fun e => h0 ((ba_e0 (by omega)).mp e)) k)⟩)
theorem cy_in (hA : sc_A D B P I kk kb kp ki) (ht : t < 20) (hN : N < 400) (f0 : yF = 0) (h : ¬ (D t = 9 ∧ yR = 10)) {post : SY → Prop} (k : (wY_compose_49 post (nI t) xT xL yW xC xG (nI N) yD yR yA yF yO kk kb kp kf kn ki ka kg kh yb yw nu rs yt ys yc yl yn yv yo ym yf tv tt tg yp yh)) : (wpY_compose post (xT, xL, yW, xC, xG, nI N, yD, yR, yA, yF, yO, kk, kb, kp, kf, kn, ki, ka, kg, kh, yb, yw, nu, rs, yt, ys, yc, yl, yn, yv, yo, ym, yf, tv, tt, tg, yp, yh) (nI t)) := by
  have h9 := sc_k9 hA t
  refine br_f (fun e => by have := (ba_e400 (by omega)).mp e; omega) (br_t f0 ⟨vp_in_nI ht (by decide), ?_⟩)
  rw [bg_ck hA ht rfl]
  by_cases e9 : D t = 9
  · exact br_t (by rw [e9]; rfl) (br_f (fun q => h ⟨e9, q⟩) k)
  · exact br_f (fun e => e9 ((ba_e9 (by omega)).mp e)) k
theorem st_0 (hA : sc_A D B P I kk kb kp ki) (hT : T ≤ 20) (hC : C ≤ 100) (ht : t < T) {Z : pt_Z} (hZ : pt_ok Z) (f0 : Z.2.1 = 0) (hN : N < 400) (hd : d ≤ N) (hp : p ≤ C) (hS : wr_S T D P d xo xt xp xl yo ym yf) (hk : D t = 0) : ∃ (f : Int32) (sx : wr_SX) (sy : wr_SY), (f = 0 → ∃ M, M < 2 * (400 - N) + d ∧ wr_G T C D P M sx sy)
      ∧ (∀ post : SX → Prop, post (xT, xL, nI C, xG, sx.1, sx.2.1, f, sx.2.2.1, sx.2.2.2.1, sx.2.2.2.2.1, xK, xI, kk, kb, kp, kn, ki, ka, kh, kd, kf, xb, nu, rs, vt, vn, va, ve, sx.2.2.2.2.2.1, sx.2.2.2.2.2.2.1, sx.2.2.2.2.2.2.2.1, sx.2.2.2.2.2.2.2.2.1, xd, sx.2.2.2.2.2.2.2.2.2, xz, xu, xe, xc, xf) → (wpX_start post (xT, xL, nI C, xG, nI N, nI p, Z.2.1, nI d, xN, nI Z.1, xK, xI, kk, kb, kp, kn, ki, ka, kh, kd, kf, xb, nu, rs, vt, vn, va, ve, xo, xt, xp, xl, xd, Z.2.2.1, xz, xu, xe, xc, xf) (nI t)))
      ∧ (∀ post : SY → Prop, post (xT, xL, sy.1, nI C, xG, sy.2.1, sy.2.2.1, sy.2.2.2.1, sy.2.2.2.2.1, f, yO, kk, kb, kp, kf, kn, ki, ka, kg, kh, yb, sy.2.2.2.2.2.1, nu, rs, yt, ys, yc, yl, yn, yv, sy.2.2.2.2.2.2.1, sy.2.2.2.2.2.2.2.1, sy.2.2.2.2.2.2.2.2, tv, tt, tg, yp, yh) → (wpY_compose post (xT, xL, nI Z.1, nI C, xG, nI N, nI d, xN, nI p, Z.2.1, yO, kk, kb, kp, kf, kn, ki, ka, kg, kh, yb, Z.2.2.2, nu, rs, yt, ys, yc, yl, yn, yv, yo, ym, yf, tv, tt, tg, yp, yh) (nI t))) := by
  have t20 : t < 20 := by omega
  have vt20 : vp_in (nI t) 20 := vp_in_nI t20 (by decide)
  have ct : (nI t).toNatClampNeg = t := nI_clamp (by omega)
  have h9 := sc_k9 hA t
  have h5 := sc_p5 hA t
  have nN : ¬ nI N = 400 := fun q => by have := (ba_e400 (by omega)).mp q; omega
  obtain ⟨c1, c2⟩ := nd_c (nu := nu) (C := C) (a := 0) (b := 0) hp
  have hZ1 : pt_ok (Z.1, (nd_r nu C p 0 0).2.2, Z.2.2) := hZ
  refine ⟨(nd_r nu C p 0 0).2.2, (nI (N + 1), nI (nd_r nu C p 0 0).2.1, nI d, xN, nI Z.1, xo, xt, xp, xl, Z.2.2.1), (nI Z.1, nI (N + 1), nI d, xN, nI (nd_r nu C p 0 0).2.1, Z.2.2.2, yo, ym, yf), fun _ => wr_leaf hN hd c1 hS hZ1, fun post k => ?_, fun post k => ?_⟩
  · refine br_f nN (nm_r (nI_1 N) ⟨vt20, nm_r (e' := nI 0) (bg_ck hA t20 hk) (br_f (by decide) (br_f (by decide) (br_t rfl ?_)))⟩)
    rw [f0]
    exact nd_x hp hC k
  · rw [f0]
    refine cy_in hA t20 hN rfl (fun e => by omega) (br_t rfl (nm_r (nI_1 N) ⟨vt20, nm_r (e' := nI 0) (bg_ck hA t20 hk) (br_t rfl (nd_y hp hC ?_))⟩))
    refine br_f (by decide) (cy_99 (c := 0) (by omega) (by decide) ?_)
    by_cases e : (nd_r nu C p 0 0).2.2 = 0
    · refine br_t e (br_f (by decide) ?_)
      unfold wY_compose_244
      exact yf_in_n (Or.inl (by decide)) (br_t rfl (br_f (by decide) (br_f (by decide) (cy_276 (c := 0) (by omega) (by decide) k))))
    · exact br_f e k
theorem st_1 (hA : sc_A D B P I kk kb kp ki) (hT : T ≤ 20) (hC : C ≤ 100) (ht : t < T) {Z : pt_Z} (hZ : pt_ok Z) (f0 : Z.2.1 = 0) (hN : N < 400) (hd : d ≤ N) (hp : p ≤ C) (hS : wr_S T D P d xo xt xp xl yo ym yf) (hk : D t = 1) : ∃ (f : Int32) (sx : wr_SX) (sy : wr_SY), (f = 0 → ∃ M, M < 2 * (400 - N) + d ∧ wr_G T C D P M sx sy)
      ∧ (∀ post : SX → Prop, post (xT, xL, nI C, xG, sx.1, sx.2.1, f, sx.2.2.1, sx.2.2.2.1, sx.2.2.2.2.1, xK, xI, kk, kb, kp, kn, ki, ka, kh, kd, kf, xb, nu, rs, vt, vn, va, ve, sx.2.2.2.2.2.1, sx.2.2.2.2.2.2.1, sx.2.2.2.2.2.2.2.1, sx.2.2.2.2.2.2.2.2.1, xd, sx.2.2.2.2.2.2.2.2.2, xz, xu, xe, xc, xf) → (wpX_start post (xT, xL, nI C, xG, nI N, nI p, Z.2.1, nI d, xN, nI Z.1, xK, xI, kk, kb, kp, kn, ki, ka, kh, kd, kf, xb, nu, rs, vt, vn, va, ve, xo, xt, xp, xl, xd, Z.2.2.1, xz, xu, xe, xc, xf) (nI t)))
      ∧ (∀ post : SY → Prop, post (xT, xL, sy.1, nI C, xG, sy.2.1, sy.2.2.1, sy.2.2.2.1, sy.2.2.2.2.1, f, yO, kk, kb, kp, kf, kn, ki, ka, kg, kh, yb, sy.2.2.2.2.2.1, nu, rs, yt, ys, yc, yl, yn, yv, sy.2.2.2.2.2.2.1, sy.2.2.2.2.2.2.2.1, sy.2.2.2.2.2.2.2.2, tv, tt, tg, yp, yh) → (wpY_compose post (xT, xL, nI Z.1, nI C, xG, nI N, nI d, xN, nI p, Z.2.1, yO, kk, kb, kp, kf, kn, ki, ka, kg, kh, yb, Z.2.2.2, nu, rs, yt, ys, yc, yl, yn, yv, yo, ym, yf, tv, tt, tg, yp, yh) (nI t))) := by
  have t20 : t < 20 := by omega
  have vt20 : vp_in (nI t) 20 := vp_in_nI t20 (by decide)
  have ct : (nI t).toNatClampNeg = t := nI_clamp (by omega)
  have h9 := sc_k9 hA t
  have h5 := sc_p5 hA t
  have nN : ¬ nI N = 400 := fun q => by have := (ba_e400 (by omega)).mp q; omega
  obtain ⟨c1, c2⟩ := nd_c (nu := nu) (C := C) (a := 0) (b := 1) hp
  have hZ1 : pt_ok (Z.1, (nd_r nu C p 0 1).2.2, Z.2.2) := hZ
  have hZ2 : pt_ok (pt (Z.1, (nd_r nu C p 0 1).2.2, Z.2.2) (nd_r nu C p 0 1).1.toInt32 (nd_r nu C p 0 1).1.toInt32) := by
    by_cases e : (nd_r nu C p 0 1).2.2 = 0
    · obtain ⟨v1, v2⟩ := c2 e
      obtain ⟨c, hc, hv⟩ := bs_v (m := 1) (by omega) v1 v2
      have e1 : (nd_r nu C p 0 1).1.toInt32 = nI c := by rw [hv, lN_i]
      exact pt_k (c := c) hZ1 (by omega) (by rw [e1]; exact by_n (by omega)) e1
    · rw [pt_id e]; exact hZ1
  have X : ∀ (f : Int32) (Z2 : pt_Z), Z2 = pt (Z.1, (nd_r nu C p 0 1).2.2, Z.2.2) (nd_r nu C p 0 1).1.toInt32 (nd_r nu C p 0 1).1.toInt32 → ∀ post : SX → Prop, post (xT, xL, nI C, xG, nI (N + 1), nI (nd_r nu C p 0 1).2.1, Z2.2.1, nI d, xN, nI Z2.1, xK, xI, kk, kb, kp, kn, ki, ka, kh, kd, kf, xb, nu, rs, vt, vn, va, ve, xo, xt, xp, xl, xd, Z2.2.2.1, xz, xu, xe, xc, xf) → (wpX_start post (xT, xL, nI C, xG, nI N, nI p, Z.2.1, nI d, xN, nI Z.1, xK, xI, kk, kb, kp, kn, ki, ka, kh, kd, kf, xb, nu, rs, vt, vn, va, ve, xo, xt, xp, xl, xd, Z.2.2.1, xz, xu, xe, xc, xf) (nI t)) := by
    intro f Z2 e2 post k
    subst e2
    refine br_f nN (nm_r (nI_1 N) ⟨vt20, nm_r (e' := nI 1) (bg_ck hA t20 hk) (br_f (by decide) (br_f (by decide) (br_f (by decide) (br_t rfl ?_))))⟩)
    rw [f0]
    exact nd_x hp hC (px_put (Z := (Z.1, (nd_r nu C p 0 1).2.2, Z.2.2)) hZ1 k)
  refine ⟨(pt (Z.1, (nd_r nu C p 0 1).2.2, Z.2.2) (nd_r nu C p 0 1).1.toInt32 (nd_r nu C p 0 1).1.toInt32).2.1, (nI (N + 1), nI (nd_r nu C p 0 1).2.1, nI d, xN, nI (pt (Z.1, (nd_r nu C p 0 1).2.2, Z.2.2) (nd_r nu C p 0 1).1.toInt32 (nd_r nu C p 0 1).1.toInt32).1, xo, xt, xp, xl, (pt (Z.1, (nd_r nu C p 0 1).2.2, Z.2.2) (nd_r nu C p 0 1).1.toInt32 (nd_r nu C p 0 1).1.toInt32).2.2.1), (nI (pt (Z.1, (nd_r nu C p 0 1).2.2, Z.2.2) (nd_r nu C p 0 1).1.toInt32 (nd_r nu C p 0 1).1.toInt32).1, nI (N + 1), nI d, xN, nI (nd_r nu C p 0 1).2.1, (pt (Z.1, (nd_r nu C p 0 1).2.2, Z.2.2) (nd_r nu C p 0 1).1.toInt32 (nd_r nu C p 0 1).1.toInt32).2.2.2, yo, ym, yf), fun _ => wr_leaf hN hd c1 hS hZ2, fun post k => X 0 _ rfl post k, fun post k => ?_⟩
  rw [f0]
  refine cy_in hA t20 hN rfl (fun e => by omega) (cy_49 hA t20 hk (by omega) rfl (br_t rfl (nd_y hp hC (cy_99 (c := 1) (by omega) (by decide) ?_))))
  by_cases e : (nd_r nu C p 0 1).2.2 = 0
  · refine br_t e (br_t rfl (py_put (Z := (Z.1, (nd_r nu C p 0 1).2.2, Z.2.2)) (x := (nd_r nu C p 0 1).1.toInt32) hZ1 ?_))
    show (wY_compose_244 post (nI t) (nI 1) ((nd_r nu C p 0 1).1) xT xL (nI (pt (Z.1, (nd_r nu C p 0 1).2.2, Z.2.2) (nd_r nu C p 0 1).1.toInt32 (nd_r nu C p 0 1).1.toInt32).1) (nI C) xG (nI (N + 1)) (nI d) xN (nI (nd_r nu C p 0 1).2.1) ((pt (Z.1, (nd_r nu C p 0 1).2.2, Z.2.2) (nd_r nu C p 0 1).1.toInt32 (nd_r nu C p 0 1).1.toInt32).2.1) yO kk kb kp kf kn ki ka kg kh yb ((pt (Z.1, (nd_r nu C p 0 1).2.2, Z.2.2) (nd_r nu C p 0 1).1.toInt32 (nd_r nu C p 0 1).1.toInt32).2.2.2) nu rs yt ys yc yl yn yv yo ym yf tv tt tg yp yh)
    unfold wY_compose_244
    exact yf_in_n (Or.inl (by decide)) (br_t rfl (br_f (by decide) (br_f (by decide) (cy_276 (c := 1) (by omega) (by decide) k))))
  · rw [pt_id e] at k
    exact br_f e k
theorem st_6 (hA : sc_A D B P I kk kb kp ki) (hT : T ≤ 20) (hC : C ≤ 100) (ht : t < T) {Z : pt_Z} (hZ : pt_ok Z) (f0 : Z.2.1 = 0) (hN : N < 400) (hd : d ≤ N) (hp : p ≤ C) (hS : wr_S T D P d xo xt xp xl yo ym yf) (hk : D t = 6) : ∃ (f : Int32) (sx : wr_SX) (sy : wr_SY), (f = 0 → ∃ M, M < 2 * (400 - N) + d ∧ wr_G T C D P M sx sy)
      ∧ (∀ post : SX → Prop, post (xT, xL, nI C, xG, sx.1, sx.2.1, f, sx.2.2.1, sx.2.2.2.1, sx.2.2.2.2.1, xK, xI, kk, kb, kp, kn, ki, ka, kh, kd, kf, xb, nu, rs, vt, vn, va, ve, sx.2.2.2.2.2.1, sx.2.2.2.2.2.2.1, sx.2.2.2.2.2.2.2.1, sx.2.2.2.2.2.2.2.2.1, xd, sx.2.2.2.2.2.2.2.2.2, xz, xu, xe, xc, xf) → (wpX_start post (xT, xL, nI C, xG, nI N, nI p, Z.2.1, nI d, xN, nI Z.1, xK, xI, kk, kb, kp, kn, ki, ka, kh, kd, kf, xb, nu, rs, vt, vn, va, ve, xo, xt, xp, xl, xd, Z.2.2.1, xz, xu, xe, xc, xf) (nI t)))
      ∧ (∀ post : SY → Prop, post (xT, xL, sy.1, nI C, xG, sy.2.1, sy.2.2.1, sy.2.2.2.1, sy.2.2.2.2.1, f, yO, kk, kb, kp, kf, kn, ki, ka, kg, kh, yb, sy.2.2.2.2.2.1, nu, rs, yt, ys, yc, yl, yn, yv, sy.2.2.2.2.2.2.1, sy.2.2.2.2.2.2.2.1, sy.2.2.2.2.2.2.2.2, tv, tt, tg, yp, yh) → (wpY_compose post (xT, xL, nI Z.1, nI C, xG, nI N, nI d, xN, nI p, Z.2.1, yO, kk, kb, kp, kf, kn, ki, ka, kg, kh, yb, Z.2.2.2, nu, rs, yt, ys, yc, yl, yn, yv, yo, ym, yf, tv, tt, tg, yp, yh) (nI t))) := by
  have t20 : t < 20 := by omega
  have vt20 : vp_in (nI t) 20 := vp_in_nI t20 (by decide)
  have ct : (nI t).toNatClampNeg = t := nI_clamp (by omega)
  have h9 := sc_k9 hA t
  have h5 := sc_p5 hA t
  have nN : ¬ nI N = 400 := fun q => by have := (ba_e400 (by omega)).mp q; omega
  have hb := sc_b20 hA t
  obtain ⟨p', Z', h1, h2, hX, hY⟩ := bs_loop (nu := nu) hC (M := B t) (by omega) (B t) 0 p Z (by omega) hp hZ
  unfold bs_X at hX
  unfold bs_Y at hY
  refine ⟨Z'.2.1, (nI (N + 1), nI p', nI d, xN, nI Z'.1, xo, xt, xp, xl, Z'.2.2.1), (nI Z'.1, nI (N + 1), nI d, xN, nI p', Z'.2.2.2, yo, ym, yf), fun _ => wr_leaf hN hd h1 hS h2, fun post k => ?_, fun post k => ?_⟩
  · refine br_f nN (nm_r (nI_1 N) ⟨vt20, nm_r (e' := nI 6) (bg_ck hA t20 hk) (br_f (by decide) (br_f (by decide) (br_f (by decide) (br_f (by decide) (br_f (by decide) (br_f (by decide) (br_f (by decide) (br_f (by decide) (br_t rfl ⟨vt20, ?_⟩)))))))))⟩)
    rw [ct, sc_b hA]
    exact hX xT xL xG (nI (N + 1)) (nI d) xN xK xI kk kb kp kn ki ka kh kd kf xb vt va ve xo xt xp xl xd xz xu xe xc xf rs vn _ k
  · refine cy_in hA t20 hN f0 (fun e => by omega) (cy_49 hA t20 hk (by omega) f0 (br_f (by decide) (cy_99 (c := 6) (by omega) (by decide) (br_t f0 (br_f (by decide) ?_)))))
    unfold wY_compose_244
    refine yf_in_n (Or.inr (by decide)) (br_t rfl (br_f (by decide) (br_f (by decide) (br_f (by decide) (br_t rfl ⟨vt20, nm_r (e' := nI (B t)) (by rw [ct, sc_b hA]) ?_⟩)))))
    exact hY 6 (nI t) 0 (Or.inr rfl) xT xL xG (nI (N + 1)) (nI d) xN yO kk kb kp kf kn ki ka kg kh yb yt ys yc yl yn yo ym yf tv tt tg yp yh rs yv _ k
end
end
section
section
variable {xT xL xC xG xV xA xF xD xN xS xK xI yW yV yD yR yA yF yO : Int32} {kk kb kp kn ki ka kh kd kf xb vt va ve xo xt xp xl xd xm xz xu xe xc xf kg yb yw yt ys yc yl yn yo ym yf tv tt tg yp yh : Nat → Int32} {nu rs vn yv : Nat → Int64}
variable {D B P I bb : Nat → Nat} {T L C N d p t : Nat}

def nd_X (nu : Nat → Int64) (C p : Nat) (a b v : Int64) (p1 : Nat) (f : Int32) : Prop :=
  ∀ (xT xL xG xV xD xN xS xK xI : Int32) (kk kb kp kn ki ka kh kd kf xb vt va ve xo xt xp xl xd xm xz xu xe xc xf : Nat → Int32) (rs vn : Nat → Int64), ∀ post : Int64 → SX → Prop, post v (xT, xL, nI C, xG, xV, nI p1, f, xD, xN, xS, xK, xI, kk, kb, kp, kn, ki, ka, kh, kd, kf, xb, nu, rs, vt, vn, va, ve, xo, xt, xp, xl, xd, xm, xz, xu, xe, xc, xf) → (wpX_checked post (xT, xL, nI C, xG, xV, nI p, 0, xD, xN, xS, xK, xI, kk, kb, kp, kn, ki, ka, kh, kd, kf, xb, nu, rs, vt, vn, va, ve, xo, xt, xp, xl, xd, xm, xz, xu, xe, xc, xf) a b)
def nd_Y (nu : Nat → Int64) (C p : Nat) (a b v : Int64) (p1 : Nat) (f : Int32) : Prop :=
  ∀ (xT xL yW xG yV yD yR yO : Int32) (kk kb kp kf kn ki ka kg kh yb yw yt ys yc yl yn yo ym yf tv tt tg yp yh : Nat → Int32) (rs yv : Nat → Int64), ∀ post : Int64 → SY → Prop, post v (xT, xL, yW, nI C, xG, yV, yD, yR, nI p1, f, yO, kk, kb, kp, kf, kn, ki, ka, kg, kh, yb, yw, nu, rs, yt, ys, yc, yl, yn, yv, yo, ym, yf, tv, tt, tg, yp, yh) → (wpY_need post (xT, xL, yW, nI C, xG, yV, yD, yR, nI p, 0, yO, kk, kb, kp, kf, kn, ki, ka, kg, kh, yb, yw, nu, rs, yt, ys, yc, yl, yn, yv, yo, ym, yf, tv, tt, tg, yp, yh) a b)
theorem nd_Xe {a b v : Int64} {p1 : Nat} {f : Int32} (h : nd_X nu C p a b v p1 f) {post : Int64 → SX → Prop} (k : post v (xT, xL, nI C, xG, xV, nI p1, f, xD, xN, xS, xK, xI, kk, kb, kp, kn, ki, ka, kh, kd, kf, xb, nu, rs, vt, vn, va, ve, xo, xt, xp, xl, xd, xm, xz, xu, xe, xc, xf)) : (wpX_checked post (xT, xL, nI C, xG, xV, nI p, 0, xD, xN, xS, xK, xI, kk, kb, kp, kn, ki, ka, kh, kd, kf, xb, nu, rs, vt, vn, va, ve, xo, xt, xp, xl, xd, xm, xz, xu, xe, xc, xf) a b) := by
  apply h; exact k
theorem nd_Ye {a b v : Int64} {p1 : Nat} {f : Int32} (h : nd_Y nu C p a b v p1 f) {post : Int64 → SY → Prop} (k : post v (xT, xL, yW, nI C, xG, yV, yD, yR, nI p1, f, yO, kk, kb, kp, kf, kn, ki, ka, kg, kh, yb, yw, nu, rs, yt, ys, yc, yl, yn, yv, yo, ym, yf, tv, tt, tg, yp, yh)) : (wpY_need post (xT, xL, yW, nI C, xG, yV, yD, yR, nI p, 0, yO, kk, kb, kp, kf, kn, ki, ka, kg, kh, yb, yw, nu, rs, yt, ys, yc, yl, yn, yv, yo, ym, yf, tv, tt, tg, yp, yh) a b) := by
  apply h; exact k
theorem nd_main (a b : Int64) (hp : p ≤ C) (hC : C ≤ 100) : ∃ (v : Int64) (p1 : Nat) (f : Int32), p1 ≤ C ∧ (f = 0 → ¬ v < a ∧ v ≤ b) ∧ nd_X nu C p a b v p1 f ∧ nd_Y nu C p a b v p1 f := by
  obtain ⟨c1, c2⟩ := nd_c (nu := nu) (C := C) (a := a) (b := b) hp
  refine ⟨(nd_r nu C p a b).1, (nd_r nu C p a b).2.1, (nd_r nu C p a b).2.2, c1, c2, ?_, ?_⟩
  · unfold nd_X
    intro xT xL xG xV xD xN xS xK xI kk kb kp kn ki ka kh kd kf xb vt va ve xo xt xp xl xd xm xz xu xe xc xf rs vn post k
    exact nd_x hp hC k
  · unfold nd_Y
    intro xT xL yW xG yV yD yR yO kk kb kp kf kn ki ka kg kh yb yw yt ys yc yl yn yo ym yf tv tt tg yp yh rs yv post k
    exact nd_y hp hC k
theorem pl_Xe {Z Z' : pt_Z} {u : Int64} (h : pl_X Z u Z') {post : SX → Prop} (k : post (xT, xL, xC, xG, xV, xA, Z'.2.1, xD, xN, nI Z'.1, xK, xI, kk, kb, kp, kn, ki, ka, kh, kd, kf, xb, nu, rs, vt, vn, va, ve, xo, xt, xp, xl, xd, Z'.2.2.1, xz, xu, xe, xc, xf)) : (wpX_putLong post (xT, xL, xC, xG, xV, xA, Z.2.1, xD, xN, nI Z.1, xK, xI, kk, kb, kp, kn, ki, ka, kh, kd, kf, xb, nu, rs, vt, vn, va, ve, xo, xt, xp, xl, xd, Z.2.2.1, xz, xu, xe, xc, xf) u) := by
  apply h; exact k
theorem pl_Ye {Z Z' : pt_Z} {u : Int64} (h : pl_Y Z u Z') {post : SY → Prop} (k : post (xT, xL, nI Z'.1, xC, xG, yV, yD, yR, yA, Z'.2.1, yO, kk, kb, kp, kf, kn, ki, ka, kg, kh, yb, Z'.2.2.2, nu, rs, yt, ys, yc, yl, yn, yv, yo, ym, yf, tv, tt, tg, yp, yh)) : (wpY_putLong post (xT, xL, nI Z.1, xC, xG, yV, yD, yR, yA, Z.2.1, yO, kk, kb, kp, kf, kn, ki, ka, kg, kh, yb, Z.2.2.2, nu, rs, yt, ys, yc, yl, yn, yv, yo, ym, yf, tv, tt, tg, yp, yh) u) := by
  apply h; exact k
/-- the bounds of a number -/
def sn_lo (c : Nat) : Int64 := if c = 3 then -9223372036854775808 else if c = 2 then -2147483648 else 0
def sn_hi (c : Nat) (m : Int32) : Int64 := if c = 3 then 9223372036854775807 else if c = 2 then 2147483647 else if c = 4 then 20 else (m - 1).toInt64
theorem sn_x (hA : sc_A D B P I kk kb kp ki) (ht : t < 20) (hN : N < 400) (hk : D t = 2 ∨ D t = 3 ∨ D t = 4 ∨ D t = 8) {post : SX → Prop} (k : (wX_startNumber_91 post (nI t) (sn_lo (D t)) (sn_hi (D t) (nI (P t))) xT xL xC xG (nI (N + 1)) xA xF xD xN xS xK xI kk kb kp kn ki ka kh kd kf xb nu rs vt vn va ve xo xt xp xl xd xm xz xu xe xc xf)) : (wpX_start post (xT, xL, xC, xG, nI N, xA, xF, xD, xN, xS, xK, xI, kk, kb, kp, kn, ki, ka, kh, kd, kf, xb, nu, rs, vt, vn, va, ve, xo, xt, xp, xl, xd, xm, xz, xu, xe, xc, xf) (nI t)) := by
  have vt20 : vp_in (nI t) 20 := vp_in_nI ht (by decide)
  have nN : ¬ nI N = 400 := fun q => by have := (ba_e400 (by omega)).mp q; omega
  have J : (wX_start_198 post (nI t) xT xL xC xG (nI (N + 1)) xA xF xD xN xS xK xI kk kb kp kn ki ka kh kd kf xb nu rs vt vn va ve xo xt xp xl xd xm xz xu xe xc xf) := by
    unfold wX_start_198
    refine And.intro vt20 ?_
    rcases hk with e | e | e | e <;> rw [bg_ck hA ht e] <;> rw [e] at k
    · exact br_f (by decide) ⟨vt20, br_t rfl (And.intro vt20 (br_f (by rw [bg_ck hA ht e]; decide) ⟨vt20, br_t (by rw [bg_ck hA ht e]; rfl) k⟩))⟩
    · exact br_t rfl (And.intro vt20 (br_t (by rw [bg_ck hA ht e]; rfl) k))
    · exact br_f (by decide) ⟨vt20, br_f (by decide) (And.intro vt20 (br_f (by rw [bg_ck hA ht e]; decide) ⟨vt20, br_f (by rw [bg_ck hA ht e]; decide) ⟨vt20, br_t (by rw [bg_ck hA ht e]; rfl) k⟩⟩))⟩
    · refine br_f (by decide) ⟨vt20, br_f (by decide) (And.intro vt20 (br_f (by rw [bg_ck hA ht e]; decide) ⟨vt20, br_f (by rw [bg_ck hA ht e]; decide) ⟨vt20, br_f (by rw [bg_ck hA ht e]; decide) ⟨vt20, ?_⟩⟩⟩))⟩
      rw [bg_cp hA ht]
      exact k
  refine br_f nN (nm_r (nI_1 N) ⟨vt20, ?_⟩)
  rcases hk with e | e | e | e
  · exact nm_r (e' := nI 2) (bg_ck hA ht e) (br_f (by decide) (br_f (by decide) (br_f (by decide) (br_f (by decide) (br_t rfl J)))))
  · exact nm_r (e' := nI 3) (bg_ck hA ht e) (br_f (by decide) (br_f (by decide) (br_f (by decide) (br_f (by decide) (br_f (by decide) (br_t rfl J))))))
  · exact nm_r (e' := nI 4) (bg_ck hA ht e) (br_f (by decide) (br_f (by decide) (br_f (by decide) (br_f (by decide) (br_f (by decide) (br_f (by decide) (br_t rfl J)))))))
  · exact nm_r (e' := nI 8) (bg_ck hA ht e) (br_f (by decide) (br_f (by decide) (br_f (by decide) (br_f (by decide) (br_f (by decide) (br_f (by decide) (br_f (by decide) (br_f (by decide) (br_f (by decide) (br_f (by decide) (br_t rfl J)))))))))))
theorem sn_y (hA : sc_A D B P I kk kb kp ki) (ht : t < 20) (hN : N < 400) (hk : D t = 2 ∨ D t = 3 ∨ D t = 4 ∨ D t = 8) (f0 : yF = 0) {post : SY → Prop} {v : Int64} {p1 : Nat} {f : Int32} (hn : nd_Y nu C p (sn_lo (D t)) (sn_hi (D t) (nI (P t))) v p1 f)
    (k : (wY_compose_225 post (nI t) (nI (D t)) v xT xL yW (nI C) xG (nI (N + 1)) yD yR (nI p1) f yO kk kb kp kf kn ki ka kg kh yb yw nu rs yt ys yc yl yn yv yo ym yf tv tt tg yp yh)) : (wpY_compose post (xT, xL, yW, nI C, xG, nI N, yD, yR, nI p, yF, yO, kk, kb, kp, kf, kn, ki, ka, kg, kh, yb, yw, nu, rs, yt, ys, yc, yl, yn, yv, yo, ym, yf, tv, tt, tg, yp, yh) (nI t)) := by
  have vt20 : vp_in (nI t) 20 := vp_in_nI ht (by decide)
  refine cy_in hA ht hN f0 (fun e => by omega) (cy_49 hA ht rfl (by omega) f0 ?_)
  subst f0
  rcases hk with e | e | e | e <;> rw [e] at k hn ⊢
  · exact br_f (by decide) (br_t rfl (nd_Ye hn (cy_115 (c := 2) (by omega) (by decide) k)))
  · exact br_f (by decide) (br_f (by decide) (br_t rfl (nd_Ye hn (cy_131 (c := 3) (by omega) (by decide) k))))
  · exact br_f (by decide) (br_f (by decide) (br_f (by decide) (br_t rfl (nd_Ye hn (cy_145 (c := 4) (by omega) (by decide) k)))))
  · refine br_f (by decide) (br_f (by decide) (br_f (by decide) (br_f (by decide) (br_f (by decide) (br_t rfl ⟨vt20, ?_⟩)))))
    rw [bg_cp hA ht]
    exact nd_Ye hn (cy_181 (c := 8) (by omega) (by decide) k)
theorem st_num (hA : sc_A D B P I kk kb kp ki) (hT : T ≤ 20) (hC : C ≤ 100) (ht : t < T) {Z : pt_Z} (hZ : pt_ok Z) (f0 : Z.2.1 = 0) (hN : N < 400) (hd : d ≤ N) (hp : p ≤ C) (hS : wr_S T D P d xo xt xp xl yo ym yf) (hk : D t = 2 ∨ D t = 3 ∨ D t = 4 ∨ D t = 8) : ∃ (f : Int32) (sx : wr_SX) (sy : wr_SY), (f = 0 → ∃ M, M < 2 * (400 - N) + d ∧ wr_G T C D P M sx sy)
      ∧ (∀ post : SX → Prop, post (xT, xL, nI C, xG, sx.1, sx.2.1, f, sx.2.2.1, sx.2.2.2.1, sx.2.2.2.2.1, xK, xI, kk, kb, kp, kn, ki, ka, kh, kd, kf, xb, nu, rs, vt, vn, va, ve, sx.2.2.2.2.2.1, sx.2.2.2.2.2.2.1, sx.2.2.2.2.2.2.2.1, sx.2.2.2.2.2.2.2.2.1, xd, sx.2.2.2.2.2.2.2.2.2, xz, xu, xe, xc, xf) → (wpX_start post (xT, xL, nI C, xG, nI N, nI p, Z.2.1, nI d, xN, nI Z.1, xK, xI, kk, kb, kp, kn, ki, ka, kh, kd, kf, xb, nu, rs, vt, vn, va, ve, xo, xt, xp, xl, xd, Z.2.2.1, xz, xu, xe, xc, xf) (nI t)))
      ∧ (∀ post : SY → Prop, post (xT, xL, sy.1, nI C, xG, sy.2.1, sy.2.2.1, sy.2.2.2.1, sy.2.2.2.2.1, f, yO, kk, kb, kp, kf, kn, ki, ka, kg, kh, yb, sy.2.2.2.2.2.1, nu, rs, yt, ys, yc, yl, yn, yv, sy.2.2.2.2.2.2.1, sy.2.2.2.2.2.2.2.1, sy.2.2.2.2.2.2.2.2, tv, tt, tg, yp, yh) → (wpY_compose post (xT, xL, nI Z.1, nI C, xG, nI N, nI d, xN, nI p, Z.2.1, yO, kk, kb, kp, kf, kn, ki, ka, kg, kh, yb, Z.2.2.2, nu, rs, yt, ys, yc, yl, yn, yv, yo, ym, yf, tv, tt, tg, yp, yh) (nI t))) := by
  have t20 : t < 20 := by omega
  have vt20 : vp_in (nI t) 20 := vp_in_nI t20 (by decide)
  have ct : (nI t).toNatClampNeg = t := nI_clamp (by omega)
  have h9 := sc_k9 hA t
  have h5 := sc_p5 hA t
  have nN : ¬ nI N = 400 := fun q => by have := (ba_e400 (by omega)).mp q; omega
  obtain ⟨v, p1, f1, q1, q2, nX, nY⟩ := nd_main (nu := nu) (sn_lo (D t)) (sn_hi (D t) (nI (P t))) hp hC
  have hZ1 : pt_ok (Z.1, f1, Z.2.2) := hZ
  have K4 : kk (nI t).toNatClampNeg = nI (D t) := bg_ck hA t20 rfl
  by_cases e1 : f1 = 0
  · subst e1
    obtain ⟨Z', g1, g2, hX, hY⟩ := pl_main hZ1 v
    by_cases e4 : D t = 4
    · obtain ⟨w1, w2⟩ := q2 rfl
      rw [e4] at w1 w2
      obtain ⟨m, m1, m2⟩ := bs_v (m := 20) (by omega) w1 w2
      obtain ⟨p', Z2, h1, h2, bX, bY⟩ := bs_loop (nu := nu) hC (M := m) m1 m 0 p1 Z' (by omega) q1 g1
      unfold bs_X at bX
      unfold bs_Y at bY
      refine ⟨Z2.2.1, (nI (N + 1), nI p', nI d, xN, nI Z2.1, xo, xt, xp, xl, Z2.2.2.1), (nI Z2.1, nI (N + 1), nI d, xN, nI p', Z2.2.2.2, yo, ym, yf), fun _ => wr_leaf hN hd h1 hS h2, fun post k => sn_x hA t20 hN hk ?_, fun post k => sn_y hA t20 hN hk f0 nY ?_⟩
      · unfold wX_startNumber_91
        rw [f0]
        refine nd_Xe nX (br_t rfl (pl_Xe (Z := (Z.1, 0, Z.2.2)) hX ⟨vt20, br_t (by rw [K4, e4]; rfl) ?_⟩))
        rw [m2, lN_i]
        refine bX xT xL xG (nI (N + 1)) (nI d) xN xK xI kk kb kp kn ki ka kh kd kf xb vt va ve xo xt xp xl xd xz xu xe xc xf rs vn _ ?_
        exact And.intro vt20 (br_f (by rw [K4, e4]; decide) k)
      · rw [e4]
        refine br_t rfl (br_f (by decide) ?_)
        unfold wY_compose_244
        refine yf_in_y (by decide) (by decide) (br_f (by decide) ?_)
        unfold wY_compose_271
        refine pl_Ye (Z := (Z.1, 0, Z.2.2)) hY (br_t rfl ?_)
        rw [m2, lN_i]
        exact bY 4 (nI t) (lN m) (Or.inl rfl) xT xL xG (nI (N + 1)) (nI d) xN yO kk kb kp kf kn ki ka kg kh yb yt ys yc yl yn yo ym yf tv tt tg yp yh rs yv _ k
    · have n4 : ¬ kk (nI t).toNatClampNeg = 4 := by rw [K4]; exact fun e => e4 ((ba_e4 (by omega)).mp e)
      by_cases e8 : D t = 8
      · obtain ⟨w1, w2⟩ := q2 rfl
        rw [e8] at w1 w2
        have w3 := (bg_pm h5 v w1).mp w2
        obtain ⟨m, hm, rfl⟩ := pk_lOf w1
        rw [nI_l (by omega), pk_lLT hm (by omega)] at w3
        refine ⟨Z'.2.1, (nI (N + 1), nI p1, nI (d + 1), xN, nI Z'.1, upd xo d (nI m), upd xt d (nI t), upd xp d 0, upd xl d 0, Z'.2.2.1), (nI Z'.1, nI (N + 1), nI (d + 1), xN, nI p1, Z'.2.2.2, upd yo d (nI t), upd ym d (nI m), upd yf d 1), fun _ => wr_push hN hd q1 hS g1 ⟨ht, by omega, rfl, rfl, fun e => by omega, fun _ => Or.inl ⟨rfl, rfl, m, w3, rfl, rfl⟩, fun e => by omega⟩, fun post k => sn_x hA t20 hN hk ?_, fun post k => sn_y hA t20 hN hk f0 nY ?_⟩
        · unfold wX_startNumber_91
          rw [f0]
          refine nd_Xe nX (br_t rfl (pl_Xe (Z := (Z.1, 0, Z.2.2)) hX ⟨vt20, br_f n4 (And.intro vt20 (br_t (by rw [K4, e8]; rfl) ?_))⟩))
          rw [lN_i]
          exact xf_opens (l := 0) (by omega) (ba_s (by omega)) t20 (by omega) k
        · have vd : vp_in (nI d) 401 := vp_in_nI (by omega) (by decide)
          have cd : (nI d).toNatClampNeg = d := nI_clamp (by omega)
          rw [e8]
          refine br_t rfl (br_f (by decide) ?_)
          unfold wY_compose_244
          refine yf_in_n (Or.inr (by decide)) (br_t rfl (br_t rfl ?_))
          unfold wY_compose_271
          refine pl_Ye (Z := (Z.1, 0, Z.2.2)) hY (br_f (by decide) (br_f (by decide) (Exists.intro 1 (br_t (by decide) (br_f (by decide) (br_t (by decide) ⟨vd, nm_r (e' := upd yo d (nI t)) (by rw [cd]) (br_t rfl (And.intro vd (nm_r (e' := upd ym d (nI m)) (by rw [cd, lN_i]) (br_f (by decide) (br_t rfl (And.intro vd (nm_r (e' := upd yf d 1) (by rw [cd]) (nm_r (nI_1 d) k))))))))⟩))))))
      · have e23 : D t = 2 ∨ D t = 3 := by omega
        refine ⟨Z'.2.1, (nI (N + 1), nI p1, nI d, xN, nI Z'.1, xo, xt, xp, xl, Z'.2.2.1), (nI Z'.1, nI (N + 1), nI d, xN, nI p1, Z'.2.2.2, yo, ym, yf), fun _ => wr_leaf hN hd q1 hS g1, fun post k => sn_x hA t20 hN hk ?_, fun post k => sn_y hA t20 hN hk f0 nY ?_⟩
        · unfold wX_startNumber_91
          rw [f0]
          exact nd_Xe nX (br_t rfl (pl_Xe (Z := (Z.1, 0, Z.2.2)) hX ⟨vt20, br_f n4 (And.intro vt20 (br_f (by rw [K4]; exact fun e => e8 ((ba_e8 (by omega)).mp e)) k))⟩))
        · have J : (wY_compose_276 post (nI t) (nI (D t)) v xT xL (nI Z'.1) (nI C) xG (nI (N + 1)) (nI d) xN (nI p1) Z'.2.1 yO kk kb kp kf kn ki ka kg kh yb Z'.2.2.2 nu rs yt ys yc yl yn yv yo ym yf tv tt tg yp yh) := cy_276 (by omega) (by omega) k
          refine br_t rfl (br_f (fun e => by have := (ba_e1 (by omega)).mp e; omega) ?_)
          unfold wY_compose_244
          refine yf_in_y ((ba_ge2 (by omega)).mpr (by omega)) ((ba_le5 (by omega)).mpr (by omega)) (br_f (by decide) ?_)
          unfold wY_compose_271
          exact pl_Ye (Z := (Z.1, 0, Z.2.2)) hY J
  · refine ⟨f1, (nI (N + 1), nI p1, nI d, xN, nI Z.1, xo, xt, xp, xl, Z.2.2.1), (nI Z.1, nI (N + 1), nI d, xN, nI p1, Z.2.2.2, yo, ym, yf), fun h => absurd h e1, fun post k => sn_x hA t20 hN hk ?_, fun post k => sn_y hA t20 hN hk f0 nY (br_f e1 k)⟩
    unfold wX_startNumber_91
    rw [f0]
    exact nd_Xe nX (br_f e1 k)
end
end
section
section
variable {xT xL xC xG xV xA xF xD xN xS xK xI yW yV yD yR yA yF yO : Int32} {kk kb kp kn ki ka kh kd kf xb vt va ve xo xt xp xl xd xm xz xu xe xc xf kg yb yw yt ys yc yl yn yo ym yf tv tt tg yp yh : Nat → Int32} {nu rs vn yv : Nat → Int64}
variable {D B P I bb : Nat → Nat} {T L C N d p t : Nat}

theorem st_5 (hA : sc_A D B P I kk kb kp ki) (hT : T ≤ 20) (hC : C ≤ 100) (ht : t < T) {Z : pt_Z} (hZ : pt_ok Z) (f0 : Z.2.1 = 0) (hN : N < 400) (hd : d ≤ N) (hp : p ≤ C) (hS : wr_S T D P d xo xt xp xl yo ym yf) (hk : D t = 5) : ∃ (f : Int32) (sx : wr_SX) (sy : wr_SY), (f = 0 → ∃ M, M < 2 * (400 - N) + d ∧ wr_G T C D P M sx sy)
      ∧ (∀ post : SX → Prop, post (xT, xL, nI C, xG, sx.1, sx.2.1, f, sx.2.2.1, sx.2.2.2.1, sx.2.2.2.2.1, xK, xI, kk, kb, kp, kn, ki, ka, kh, kd, kf, xb, nu, rs, vt, vn, va, ve, sx.2.2.2.2.2.1, sx.2.2.2.2.2.2.1, sx.2.2.2.2.2.2.2.1, sx.2.2.2.2.2.2.2.2.1, xd, sx.2.2.2.2.2.2.2.2.2, xz, xu, xe, xc, xf) → (wpX_start post (xT, xL, nI C, xG, nI N, nI p, Z.2.1, nI d, xN, nI Z.1, xK, xI, kk, kb, kp, kn, ki, ka, kh, kd, kf, xb, nu, rs, vt, vn, va, ve, xo, xt, xp, xl, xd, Z.2.2.1, xz, xu, xe, xc, xf) (nI t)))
      ∧ (∀ post : SY → Prop, post (xT, xL, sy.1, nI C, xG, sy.2.1, sy.2.2.1, sy.2.2.2.1, sy.2.2.2.2.1, f, yO, kk, kb, kp, kf, kn, ki, ka, kg, kh, yb, sy.2.2.2.2.2.1, nu, rs, yt, ys, yc, yl, yn, yv, sy.2.2.2.2.2.2.1, sy.2.2.2.2.2.2.2.1, sy.2.2.2.2.2.2.2.2, tv, tt, tg, yp, yh) → (wpY_compose post (xT, xL, nI Z.1, nI C, xG, nI N, nI d, xN, nI p, Z.2.1, yO, kk, kb, kp, kf, kn, ki, ka, kg, kh, yb, Z.2.2.2, nu, rs, yt, ys, yc, yl, yn, yv, yo, ym, yf, tv, tt, tg, yp, yh) (nI t))) := by
  have t20 : t < 20 := by omega
  have vt20 : vp_in (nI t) 20 := vp_in_nI t20 (by decide)
  have ct : (nI t).toNatClampNeg = t := nI_clamp (by omega)
  have h9 := sc_k9 hA t
  have h5 := sc_p5 hA t
  have nN : ¬ nI N = 400 := fun q => by have := (ba_e400 (by omega)).mp q; omega
  have PX : ∀ post : SX → Prop, wpX_symbolNumber (fun r_173 u => match u with | (xT, xL, xC, xG, xV, xA, xF, xD, xN, xS, xK, xI, kk, kb, kp, kn, ki, ka, kh, kd, kf, xb, nu, rs, vt, vn, va, ve, xo, xt, xp, xl, xd, xm, xz, xu, xe, xc, xf) => ((xF = 0 → (wpX_putLong (fun u => match u with | (xT, xL, xC, xG, xV, xA, xF, xD, xN, xS, xK, xI, kk, kb, kp, kn, ki, ka, kh, kd, kf, xb, nu, rs, vt, vn, va, ve, xo, xt, xp, xl, xd, xm, xz, xu, xe, xc, xf) => (post (xT, xL, xC, xG, xV, xA, xF, xD, xN, xS, xK, xI, kk, kb, kp, kn, ki, ka, kh, kd, kf, xb, nu, rs, vt, vn, va, ve, xo, xt, xp, xl, xd, xm, xz, xu, xe, xc, xf))) (xT, xL, xC, xG, xV, xA, xF, xD, xN, xS, xK, xI, kk, kb, kp, kn, ki, ka, kh, kd, kf, xb, nu, rs, vt, vn, va, ve, xo, xt, xp, xl, xd, xm, xz, xu, xe, xc, xf) r_173.toInt64)) ∧ (¬ xF = 0 → (post (xT, xL, xC, xG, xV, xA, xF, xD, xN, xS, xK, xI, kk, kb, kp, kn, ki, ka, kh, kd, kf, xb, nu, rs, vt, vn, va, ve, xo, xt, xp, xl, xd, xm, xz, xu, xe, xc, xf))))) (xT, xL, nI C, xG, nI (N + 1), nI p, Z.2.1, nI d, xN, nI Z.1, xK, xI, kk, kb, kp, kn, ki, ka, kh, kd, kf, xb, nu, rs, vt, vn, va, ve, xo, xt, xp, xl, xd, Z.2.2.1, xz, xu, xe, xc, xf) (nI t) → (wpX_start post (xT, xL, nI C, xG, nI N, nI p, Z.2.1, nI d, xN, nI Z.1, xK, xI, kk, kb, kp, kn, ki, ka, kh, kd, kf, xb, nu, rs, vt, vn, va, ve, xo, xt, xp, xl, xd, Z.2.2.1, xz, xu, xe, xc, xf) (nI t)) := by
    intro post k
    exact br_f nN (nm_r (nI_1 N) ⟨vt20, nm_r (e' := nI 5) (bg_ck hA t20 hk) (br_f (by decide) (br_f (by decide) (br_f (by decide) (br_f (by decide) (br_f (by decide) (br_f (by decide) (br_f (by decide) (br_t rfl k))))))))⟩)
  have PY : ∀ post : SY → Prop, (wpY_need (fun r_198 u => match u with | (xT, xL, yW, xC, xG, yV, yD, yR, yA, yF, yO, kk, kb, kp, kf, kn, ki, ka, kg, kh, yb, yw, nu, rs, yt, ys, yc, yl, yn, yv, yo, ym, yf, tv, tt, tg, yp, yh) => (wpY_find (fun r_237 => (((0 ≤ r_237.toInt64 → (wY_compose_225 post (nI t) (nI 5) r_237.toInt64 xT xL yW xC xG yV yD yR yA yF yO kk kb kp kf kn ki ka kg kh yb yw nu rs yt ys yc yl yn yv yo ym yf tv tt tg yp yh)) ∧ (¬ 0 ≤ r_237.toInt64 → (((yF = 0 → (wY_compose_225 post (nI t) (nI 5) r_237.toInt64 xT xL yW xC xG yV yD yR yA (-3) yO kk kb kp kf kn ki ka kg kh yb yw nu rs yt ys yc yl yn yv yo ym yf tv tt tg yp yh)) ∧ (¬ yF = 0 → (wY_compose_225 post (nI t) (nI 5) r_237.toInt64 xT xL yW xC xG yV yD yR yA yF yO kk kb kp kf kn ki ka kg kh yb yw nu rs yt ys yc yl yn yv yo ym yf tv tt tg yp yh)))))))) (xT, xL, yW, xC, xG, yV, yD, yR, yA, yF, yO, kk, kb, kp, kf, kn, ki, ka, kg, kh, yb, yw, nu, rs, yt, ys, yc, yl, yn, yv, yo, ym, yf, tv, tt, tg, yp, yh) (nI t) r_198.toInt32)) (xT, xL, nI Z.1, nI C, xG, nI (N + 1), nI d, xN, nI p, Z.2.1, yO, kk, kb, kp, kf, kn, ki, ka, kg, kh, yb, Z.2.2.2, nu, rs, yt, ys, yc, yl, yn, yv, yo, ym, yf, tv, tt, tg, yp, yh) 0 15) → (wpY_compose post (xT, xL, nI Z.1, nI C, xG, nI N, nI d, xN, nI p, Z.2.1, yO, kk, kb, kp, kf, kn, ki, ka, kg, kh, yb, Z.2.2.2, nu, rs, yt, ys, yc, yl, yn, yv, yo, ym, yf, tv, tt, tg, yp, yh) (nI t)) := by
    intro post k
    exact cy_in hA t20 hN f0 (fun e => by omega) (cy_49 hA t20 hk (by omega) f0 (br_f (by decide) (br_f (by decide) (br_f (by decide) (br_f (by decide) (br_f (by decide) (br_f (by decide) (br_t rfl k))))))))
  by_cases e : p = C
  · have er : nd_r nu C p 0 15 = (0, p, -2) := by unfold nd_r; rw [if_pos e]
    refine ⟨-2, (nI (N + 1), nI p, nI d, xN, nI Z.1, xo, xt, xp, xl, Z.2.2.1), (nI Z.1, nI (N + 1), nI d, xN, nI p, Z.2.2.2, yo, ym, yf), fun h => absurd h (by decide), fun post k => PX post ?_, fun post k => PY post ?_⟩
    · unfold wpX_symbolNumber
      rw [f0]
      subst e
      exact xf_nn_s (br_f (by decide) (br_f ba_m1le (xf_fail' (by decide) (br_f (by decide) k))))
    · rw [f0]
      refine nd_y hp hC ?_
      rw [er]
      exact yn_find hA t20 (br_c (fun _ => br_f (show ¬ (-2 : Int32) = 0 by decide) k) (fun _ => br_f (show ¬ (-2 : Int32) = 0 by decide) (br_f (show ¬ (-2 : Int32) = 0 by decide) k)))
  · by_cases z : nu p < 0 ∨ ¬ nu p ≤ 15
    · have er : nd_r nu C p 0 15 = (nu p, p + 1, -3) := by unfold nd_r; rw [if_neg e, if_pos z]
      refine ⟨-3, (nI (N + 1), nI (p + 1), nI d, xN, nI Z.1, xo, xt, xp, xl, Z.2.2.1), (nI Z.1, nI (N + 1), nI d, xN, nI (p + 1), Z.2.2.2, yo, ym, yf), fun h => absurd h (by decide), fun post k => PX post ?_, fun post k => PY post ?_⟩
      · unfold wpX_symbolNumber
        rw [f0]
        refine xf_nn (by omega) hC (br_t rfl ?_)
        by_cases z1 : nu p < 0
        · exact br_t z1 (br_f ba_m1le (xf_fail (br_f (by decide) k)))
        · refine br_f z1 (br_t ?_ (br_f ba_m1le (xf_fail (br_f (by decide) k))))
          have z2 := z.resolve_left z1
          obtain ⟨m, hm, em⟩ := pk_lOf z1
          rw [em] at z2 ⊢
          have z3 : ¬ lN m ≤ lN 15 := z2
          rw [pk_lLE hm (by omega)] at z3
          exact (pk_lLE (a := 16) (by omega) hm).mpr (by omega)
      · rw [f0]
        refine nd_y hp hC ?_
        rw [er]
        exact yn_find hA t20 (br_c (fun _ => br_f (show ¬ (-3 : Int32) = 0 by decide) k) (fun _ => br_f (show ¬ (-3 : Int32) = 0 by decide) (br_f (show ¬ (-3 : Int32) = 0 by decide) k)))
    · have er : nd_r nu C p 0 15 = (nu p, p + 1, 0) := by unfold nd_r; rw [if_neg e, if_neg z]
      have z1 : ¬ nu p < 0 := fun q => z (Or.inl q)
      have z2 : nu p ≤ 15 := Classical.byContradiction fun q => z (Or.inr q)
      obtain ⟨m, hm, em⟩ := bs_v (m := 15) (by omega) z1 z2
      have z3 : ¬ 16 ≤ nu p := by
        rw [em]
        exact fun q => by have := (pk_lLE (a := 16) (b := m) (by omega) (by omega)).mp q; omega
      have ei : (nu p).toInt32 = nI m := by rw [em, lN_i]
      rcases sc_find_r (P := P) (kn := kn) (t := t) (nI m) h5 with ⟨hf, _⟩ | ⟨f, hf1, hf, _⟩
      · refine ⟨-3, (nI (N + 1), nI (p + 1), nI d, xN, nI Z.1, xo, xt, xp, xl, Z.2.2.1), (nI Z.1, nI (N + 1), nI d, xN, nI (p + 1), Z.2.2.2, yo, ym, yf), fun h => absurd h (by decide), fun post k => PX post ?_, fun post k => PY post ?_⟩
        · unfold wpX_symbolNumber
          rw [f0]
          refine xf_nn (by omega) hC (br_t rfl (br_f z1 (br_f z3 (xn_named hA t20 ?_))))
          rw [ei, hf]
          exact br_f ba_m1le (xf_fail (br_f (by decide) k))
        · rw [f0]
          refine nd_y hp hC ?_
          rw [er]
          refine yn_find hA t20 ?_
          rw [ei, hf]
          exact br_f (by decide) (br_t rfl (br_f (by decide) k))
      · have hZ1 : pt_ok (Z.1, 0, Z.2.2) := hZ
        obtain ⟨Z', g1, g2, hX, hY⟩ := pl_main hZ1 (nI f).toInt64
        have l0 : (0 : Int64) ≤ (nI f).toInt64 := by
          rw [nI_l (by omega)]
          exact (pk_lLE (a := 0) (b := f) (by omega) (by omega)).mpr (by omega)
        refine ⟨Z'.2.1, (nI (N + 1), nI (p + 1), nI d, xN, nI Z'.1, xo, xt, xp, xl, Z'.2.2.1), (nI Z'.1, nI (N + 1), nI d, xN, nI (p + 1), Z'.2.2.2, yo, ym, yf), fun _ => wr_leaf hN hd (by omega) hS g1, fun post k => PX post ?_, fun post k => PY post ?_⟩
        · unfold wpX_symbolNumber
          rw [f0]
          refine xf_nn (by omega) hC (br_t rfl (br_f z1 (br_f z3 (xn_named hA t20 ?_))))
          rw [ei, hf]
          exact br_t (nI_pos' (by omega)) (br_t rfl (pl_Xe (Z := (Z.1, 0, Z.2.2)) hX k))
        · rw [f0]
          refine nd_y hp hC ?_
          rw [er]
          refine yn_find hA t20 ?_
          rw [ei, hf]
          refine br_t l0 (br_t rfl (br_f (by decide) ?_))
          unfold wY_compose_244
          refine yf_in_y (by decide) (by decide) (br_f (by decide) ?_)
          unfold wY_compose_271
          exact pl_Ye (Z := (Z.1, 0, Z.2.2)) hY (cy_276 (c := 5) (by omega) (by decide) k)
theorem st_7 (hA : sc_A D B P I kk kb kp ki) (hT : T ≤ 20) (hC : C ≤ 100) (ht : t < T) {Z : pt_Z} (hZ : pt_ok Z) (f0 : Z.2.1 = 0) (hN : N < 400) (hd : d ≤ N) (hp : p ≤ C) (hS : wr_S T D P d xo xt xp xl yo ym yf) (hk : D t = 7) : ∃ (f : Int32) (sx : wr_SX) (sy : wr_SY), (f = 0 → ∃ M, M < 2 * (400 - N) + d ∧ wr_G T C D P M sx sy)
      ∧ (∀ post : SX → Prop, post (xT, xL, nI C, xG, sx.1, sx.2.1, f, sx.2.2.1, sx.2.2.2.1, sx.2.2.2.2.1, xK, xI, kk, kb, kp, kn, ki, ka, kh, kd, kf, xb, nu, rs, vt, vn, va, ve, sx.2.2.2.2.2.1, sx.2.2.2.2.2.2.1, sx.2.2.2.2.2.2.2.1, sx.2.2.2.2.2.2.2.2.1, xd, sx.2.2.2.2.2.2.2.2.2, xz, xu, xe, xc, xf) → (wpX_start post (xT, xL, nI C, xG, nI N, nI p, Z.2.1, nI d, xN, nI Z.1, xK, xI, kk, kb, kp, kn, ki, ka, kh, kd, kf, xb, nu, rs, vt, vn, va, ve, xo, xt, xp, xl, xd, Z.2.2.1, xz, xu, xe, xc, xf) (nI t)))
      ∧ (∀ post : SY → Prop, post (xT, xL, sy.1, nI C, xG, sy.2.1, sy.2.2.1, sy.2.2.2.1, sy.2.2.2.2.1, f, yO, kk, kb, kp, kf, kn, ki, ka, kg, kh, yb, sy.2.2.2.2.2.1, nu, rs, yt, ys, yc, yl, yn, yv, sy.2.2.2.2.2.2.1, sy.2.2.2.2.2.2.2.1, sy.2.2.2.2.2.2.2.2, tv, tt, tg, yp, yh) → (wpY_compose post (xT, xL, nI Z.1, nI C, xG, nI N, nI d, xN, nI p, Z.2.1, yO, kk, kb, kp, kf, kn, ki, ka, kg, kh, yb, Z.2.2.2, nu, rs, yt, ys, yc, yl, yn, yv, yo, ym, yf, tv, tt, tg, yp, yh) (nI t))) := by
  have t20 : t < 20 := by omega
  have vt20 : vp_in (nI t) 20 := vp_in_nI t20 (by decide)
  have ct : (nI t).toNatClampNeg = t := nI_clamp (by omega)
  have h9 := sc_k9 hA t
  have h5 := sc_p5 hA t
  have nN : ¬ nI N = 400 := fun q => by have := (ba_e400 (by omega)).mp q; omega
  obtain ⟨v, p1, f1, q1, q2, nX, nY⟩ := nd_main (nu := nu) 0 40 hp hC
  have vd : vp_in (nI d) 401 := vp_in_nI (by omega) (by decide)
  have cd : (nI d).toNatClampNeg = d := nI_clamp (by omega)
  have PX : ∀ post : SX → Prop, wpX_checked (fun r_297 u => match u with | (xT, xL, xC, xG, xV, xA, xF, xD, xN, xS, xK, xI, kk, kb, kp, kn, ki, ka, kh, kd, kf, xb, nu, rs, vt, vn, va, ve, xo, xt, xp, xl, xd, xm, xz, xu, xe, xc, xf) => (((r_297 ≤ 0 → (wX_start_187 post (nI t) r_297 xT xL xC xG xV xA xF xD xN xS xK xI kk kb kp kn ki ka kh kd kf xb nu rs vt vn va ve xo xt xp xl xd xm xz xu xe xc xf)) ∧ (¬ r_297 ≤ 0 → (((xF = 0 → (wpX_putLong (fun u => match u with | (xT, xL, xC, xG, xV, xA, xF, xD, xN, xS, xK, xI, kk, kb, kp, kn, ki, ka, kh, kd, kf, xb, nu, rs, vt, vn, va, ve, xo, xt, xp, xl, xd, xm, xz, xu, xe, xc, xf) => (wX_start_187 post (nI t) r_297 xT xL xC xG xV xA xF xD xN xS xK xI kk kb kp kn ki ka kh kd kf xb nu rs vt vn va ve xo xt xp xl xd xm xz xu xe xc xf)) (xT, xL, xC, xG, xV, xA, xF, xD, xN, xS, xK, xI, kk, kb, kp, kn, ki, ka, kh, kd, kf, xb, nu, rs, vt, vn, va, ve, xo, xt, xp, xl, xd, xm, xz, xu, xe, xc, xf) r_297)) ∧ (¬ xF = 0 → (wX_start_187 post (nI t) r_297 xT xL xC xG xV xA xF xD xN xS xK xI kk kb kp kn ki ka kh kd kf xb nu rs vt vn va ve xo xt xp xl xd xm xz xu xe xc xf)))))))) (xT, xL, nI C, xG, nI (N + 1), nI p, Z.2.1, nI d, xN, nI Z.1, xK, xI, kk, kb, kp, kn, ki, ka, kh, kd, kf, xb, nu, rs, vt, vn, va, ve, xo, xt, xp, xl, xd, Z.2.2.1, xz, xu, xe, xc, xf) 0 40 → (wpX_start post (xT, xL, nI C, xG, nI N, nI p, Z.2.1, nI d, xN, nI Z.1, xK, xI, kk, kb, kp, kn, ki, ka, kh, kd, kf, xb, nu, rs, vt, vn, va, ve, xo, xt, xp, xl, xd, Z.2.2.1, xz, xu, xe, xc, xf) (nI t)) := by
    intro post k
    exact br_f nN (nm_r (nI_1 N) ⟨vt20, nm_r (e' := nI 7) (bg_ck hA t20 hk) (br_f (by decide) (br_f (by decide) (br_f (by decide) (br_f (by decide) (br_f (by decide) (br_f (by decide) (br_f (by decide) (br_f (by decide) (br_f (by decide) (br_t rfl k))))))))))⟩)
  have PY : ∀ post : SY → Prop, (wY_compose_225 post (nI t) (nI 7) v xT xL (nI Z.1) (nI C) xG (nI (N + 1)) (nI d) xN (nI p1) f1 yO kk kb kp kf kn ki ka kg kh yb Z.2.2.2 nu rs yt ys yc yl yn yv yo ym yf tv tt tg yp yh) → (wpY_compose post (xT, xL, nI Z.1, nI C, xG, nI N, nI d, xN, nI p, Z.2.1, yO, kk, kb, kp, kf, kn, ki, ka, kg, kh, yb, Z.2.2.2, nu, rs, yt, ys, yc, yl, yn, yv, yo, ym, yf, tv, tt, tg, yp, yh) (nI t)) := by
    intro post k
    rw [f0]
    exact cy_in hA t20 hN rfl (fun e => by omega) (cy_49 hA t20 hk (by omega) rfl (br_f (by decide) (br_f (by decide) (br_f (by decide) (br_f (by decide) (br_t rfl (nd_Ye nY (cy_160 (c := 7) (by omega) (by decide) k))))))))
  by_cases e1 : f1 = 0
  · subst e1
    obtain ⟨w1, w2⟩ := q2 rfl
    obtain ⟨m, m1, rfl⟩ := bs_v (m := 40) (by omega) w1 w2
    have hZ1 : pt_ok (Z.1, 0, Z.2.2) := hZ
    have YE : ∀ (post : SY → Prop) (Z' : pt_Z), post (xT, xL, nI Z'.1, nI C, xG, nI (N + 1), nI (d + 1), xN, nI p1, Z'.2.1, yO, kk, kb, kp, kf, kn, ki, ka, kg, kh, yb, Z'.2.2.2, nu, rs, yt, ys, yc, yl, yn, yv, upd yo d (nI t), upd ym d 0, upd yf d (nI m), tv, tt, tg, yp, yh) → (wY_compose_276 post (nI t) (nI 7) (lN m) xT xL (nI Z'.1) (nI C) xG (nI (N + 1)) (nI d) xN (nI p1) Z'.2.1 yO kk kb kp kf kn ki ka kg kh yb Z'.2.2.2 nu rs yt ys yc yl yn yv yo ym yf tv tt tg yp yh) := by
      intro post Z' k
      exact br_f (by decide) (br_f (by decide) (Exists.intro 1 (br_t (by decide) (br_f (by decide) (br_t (by decide) ⟨vd, nm_r (e' := upd yo d (nI t)) (by rw [cd]) (br_f (by decide) (And.intro vd (nm_r (e' := upd ym d 0) (by rw [cd]) (br_t rfl (And.intro vd (nm_r (e' := upd yf d (nI m)) (by rw [cd, lN_i]) (nm_r (nI_1 d) k)))))))⟩)))))
    have hE : wr_E T D P t 0 (nI t) 0 (nI m) (nI t) 0 (nI m) := ⟨ht, by omega, rfl, rfl, fun _ => ⟨m, m1, rfl, rfl⟩, fun e => by omega, fun e => by omega⟩
    have v5 : (0 : Int32).toInt16.toInt32 = 0 := ba_s0
    by_cases m0 : m = 0
    · subst m0
      refine ⟨0, (nI (N + 1), nI p1, nI (d + 1), xN, nI Z.1, upd xo d 0, upd xt d (nI t), upd xp d 0, upd xl d (nI 0), Z.2.2.1), (nI Z.1, nI (N + 1), nI (d + 1), xN, nI p1, Z.2.2.2, upd yo d (nI t), upd ym d 0, upd yf d (nI 0)), fun _ => wr_push hN hd q1 hS hZ hE, fun post k => PX post ?_, fun post k => PY post ?_⟩
      · rw [f0]
        refine nd_Xe nX (br_t (by decide) ?_)
        unfold wX_start_187
        rw [lN_i]
        exact xf_opens (by omega) v5 t20 (by omega) k
      · refine br_t rfl (br_f (by decide) ?_)
        unfold wY_compose_244
        exact yf_in_n (Or.inr (by decide)) (br_t rfl (br_f (by decide) (br_t rfl (br_t (by decide) (YE post (Z.1, 0, Z.2.2) k)))))
    · have pos : ¬ lN m ≤ 0 := fun q => by have := (pk_lLE (a := m) (b := 0) (by omega) (by omega)).mp q; omega
      obtain ⟨Z', g1, g2, hX, hY⟩ := pl_main hZ1 (lN m)
      refine ⟨Z'.2.1, (nI (N + 1), nI p1, nI (d + 1), xN, nI Z'.1, upd xo d 0, upd xt d (nI t), upd xp d 0, upd xl d (nI m), Z'.2.2.1), (nI Z'.1, nI (N + 1), nI (d + 1), xN, nI p1, Z'.2.2.2, upd yo d (nI t), upd ym d 0, upd yf d (nI m)), fun _ => wr_push hN hd q1 hS g1 hE, fun post k => PX post ?_, fun post k => PY post ?_⟩
      · rw [f0]
        refine nd_Xe nX (br_f pos (br_t rfl (pl_Xe (Z := (Z.1, 0, Z.2.2)) hX ?_)))
        show (wX_start_187 post (nI t) (lN m) xT xL (nI C) xG (nI (N + 1)) (nI p1) Z'.2.1 (nI d) xN (nI Z'.1) xK xI kk kb kp kn ki ka kh kd kf xb nu rs vt vn va ve xo xt xp xl xd Z'.2.2.1 xz xu xe xc xf)
        unfold wX_start_187
        rw [lN_i]
        exact xf_opens (by omega) v5 t20 (by omega) k
      · refine br_t rfl (br_f (by decide) ?_)
        unfold wY_compose_244
        refine yf_in_n (Or.inr (by decide)) (br_t rfl (br_f (by decide) (br_t rfl (br_f pos ?_))))
        unfold wY_compose_271
        exact pl_Ye (Z := (Z.1, 0, Z.2.2)) hY (YE post Z' k)
  · refine ⟨f1, (nI (N + 1), nI p1, nI (d + 1), xN, nI Z.1, upd xo d 0, upd xt d (nI t), upd xp d 0, upd xl d (vp_nar .byte v.toInt32.toInt8.toInt32), Z.2.2.1), (nI Z.1, nI (N + 1), nI d, xN, nI p1, Z.2.2.2, yo, ym, yf), fun h => absurd h e1, fun post k => PX post ?_, fun post k => PY post (br_f e1 k)⟩
    have J : (wX_start_187 post (nI t) v xT xL (nI C) xG (nI (N + 1)) (nI p1) f1 (nI d) xN (nI Z.1) xK xI kk kb kp kn ki ka kh kd kf xb nu rs vt vn va ve xo xt xp xl xd Z.2.2.1 xz xu xe xc xf) := by
      unfold wX_start_187
      exact xf_opens' (by omega) ba_s0 t20 k
    rw [f0]
    exact nd_Xe nX (br_c (fun _ => J) (fun _ => br_f e1 J))
theorem st_9 (hA : sc_A D B P I kk kb kp ki) (hT : T ≤ 20) (hC : C ≤ 100) (ht : t < T) {Z : pt_Z} (hZ : pt_ok Z) (f0 : Z.2.1 = 0) (hN : N < 400) (hd : d ≤ N) (hp : p ≤ C) (hS : wr_S T D P d xo xt xp xl yo ym yf) (hk : D t = 9) : ∃ (f : Int32) (sx : wr_SX) (sy : wr_SY), (f = 0 → ∃ M, M < 2 * (400 - N) + d ∧ wr_G T C D P M sx sy)
      ∧ (∀ post : SX → Prop, post (xT, xL, nI C, xG, sx.1, sx.2.1, f, sx.2.2.1, sx.2.2.2.1, sx.2.2.2.2.1, xK, xI, kk, kb, kp, kn, ki, ka, kh, kd, kf, xb, nu, rs, vt, vn, va, ve, sx.2.2.2.2.2.1, sx.2.2.2.2.2.2.1, sx.2.2.2.2.2.2.2.1, sx.2.2.2.2.2.2.2.2.1, xd, sx.2.2.2.2.2.2.2.2.2, xz, xu, xe, xc, xf) → (wpX_start post (xT, xL, nI C, xG, nI N, nI p, Z.2.1, nI d, xN, nI Z.1, xK, xI, kk, kb, kp, kn, ki, ka, kh, kd, kf, xb, nu, rs, vt, vn, va, ve, xo, xt, xp, xl, xd, Z.2.2.1, xz, xu, xe, xc, xf) (nI t)))
      ∧ (∀ post : SY → Prop, post (xT, xL, sy.1, nI C, xG, sy.2.1, sy.2.2.1, sy.2.2.2.1, sy.2.2.2.2.1, f, yO, kk, kb, kp, kf, kn, ki, ka, kg, kh, yb, sy.2.2.2.2.2.1, nu, rs, yt, ys, yc, yl, yn, yv, sy.2.2.2.2.2.2.1, sy.2.2.2.2.2.2.2.1, sy.2.2.2.2.2.2.2.2, tv, tt, tg, yp, yh) → (wpY_compose post (xT, xL, nI Z.1, nI C, xG, nI N, nI d, xN, nI p, Z.2.1, yO, kk, kb, kp, kf, kn, ki, ka, kg, kh, yb, Z.2.2.2, nu, rs, yt, ys, yc, yl, yn, yv, yo, ym, yf, tv, tt, tg, yp, yh) (nI t))) := by
  have t20 : t < 20 := by omega
  have vt20 : vp_in (nI t) 20 := vp_in_nI t20 (by decide)
  have ct : (nI t).toNatClampNeg = t := nI_clamp (by omega)
  have h9 := sc_k9 hA t
  have h5 := sc_p5 hA t
  have nN : ¬ nI N = 400 := fun q => by have := (ba_e400 (by omega)).mp q; omega
  have vd : vp_in (nI d) 401 := vp_in_nI (by omega) (by decide)
  have cd : (nI d).toNatClampNeg = d := nI_clamp (by omega)
  have PX : ∀ post : SX → Prop, wpX_enter (fun u => match u with | (xT, xL, xC, xG, xV, xA, xF, xD, xN, xS, xK, xI, kk, kb, kp, kn, ki, ka, kh, kd, kf, xb, nu, rs, vt, vn, va, ve, xo, xt, xp, xl, xd, xm, xz, xu, xe, xc, xf) => (post (xT, xL, xC, xG, xV, xA, xF, xD, xN, xS, xK, xI, kk, kb, kp, kn, ki, ka, kh, kd, kf, xb, nu, rs, vt, vn, va, ve, xo, xt, xp, xl, xd, xm, xz, xu, xe, xc, xf))) (xT, xL, nI C, xG, nI (N + 1), nI p, Z.2.1, nI d, xN, nI Z.1, xK, xI, kk, kb, kp, kn, ki, ka, kh, kd, kf, xb, nu, rs, vt, vn, va, ve, xo, xt, xp, xl, xd, Z.2.2.1, xz, xu, xe, xc, xf) 0 (nI t) → (wpX_start post (xT, xL, nI C, xG, nI N, nI p, Z.2.1, nI d, xN, nI Z.1, xK, xI, kk, kb, kp, kn, ki, ka, kh, kd, kf, xb, nu, rs, vt, vn, va, ve, xo, xt, xp, xl, xd, Z.2.2.1, xz, xu, xe, xc, xf) (nI t)) := by
    intro post k
    exact br_f nN (nm_r (nI_1 N) ⟨vt20, nm_r (e' := nI 9) (bg_ck hA t20 hk) (br_f (by decide) (br_f (by decide) (br_f (by decide) (br_f (by decide) (br_f (by decide) (br_f (by decide) (br_f (by decide) (br_f (by decide) (br_f (by decide) (br_f (by decide) (br_f (by decide) (br_t rfl k))))))))))))⟩)
  by_cases z : xN = 10
  · refine ⟨-5, (nI (N + 1), nI p, nI d, xN, nI Z.1, xo, xt, xp, xl, Z.2.2.1), (nI Z.1, nI N, nI d, xN, nI p, Z.2.2.2, yo, ym, yf), fun h => absurd h (by decide), fun post k => PX post ?_, fun post k => ?_⟩
    · rw [f0]
      subst z
      exact xf_enter_d k
    · rw [f0]
      exact br_f nN (br_t rfl ⟨vt20, br_t (by rw [bg_ck hA t20 hk]; rfl) (br_t z (br_f (by decide) k))⟩)
  · have hE : wr_E T D P t 0 (nI t) 0 0 (nI t) 0 (nI (P t)) := ⟨ht, by omega, rfl, rfl, fun e => by omega, fun e => by omega, fun _ => ⟨0, by omega, rfl, rfl, rfl⟩⟩
    refine ⟨Z.2.1, (nI (N + 1), nI p, nI (d + 1), xN + 1, nI Z.1, upd xo d 0, upd xt d (nI t), upd xp d 0, upd xl d 0, Z.2.2.1), (nI Z.1, nI (N + 1), nI (d + 1), xN + 1, nI p, Z.2.2.2, upd yo d (nI t), upd ym d 0, upd yf d (nI (P t))), fun _ => wr_push hN hd hp hS hZ hE, fun post k => PX post (xf_enter z (by omega) ba_s0 t20 k), fun post k => ?_⟩
    refine cy_in hA t20 hN f0 (fun e => z e.2) (cy_49 hA t20 hk (by omega) f0 (br_f (by decide) (cy_99 (c := 9) (by omega) (by decide) (br_t f0 (br_f (by decide) ?_)))))
    unfold wY_compose_244
    refine yf_in_n (Or.inr (by decide)) (br_t rfl (br_f (by decide) (br_f (by decide) (br_f (by decide) (br_f (by decide) (Exists.intro 1 (br_t (by decide) (br_t rfl (nm_e (br_t (by decide) ⟨vd, nm_r (e' := upd yo d (nI t)) (by rw [cd]) (br_f (by decide) (And.intro vd (nm_r (e' := upd ym d 0) (by rw [cd]) (br_f (by decide) (br_f (by decide) ⟨vt20, ?_⟩)))))⟩))))))))))
    refine And.intro vd (nm_r (e' := upd yf d (nI (P t))) (by rw [cd, ct, sc_p hA]) (nm_r (nI_1 d) k))
theorem st_main (hA : sc_A D B P I kk kb kp ki) (hT : T ≤ 20) (hC : C ≤ 100) (ht : t < T) {Z : pt_Z} (hZ : pt_ok Z) (f0 : Z.2.1 = 0) (hN : N ≤ 400) (hd : d ≤ N) (hp : p ≤ C) (hS : wr_S T D P d xo xt xp xl yo ym yf) : ∃ (f : Int32) (sx : wr_SX) (sy : wr_SY), (f = 0 → ∃ M, M < 2 * (400 - N) + d ∧ wr_G T C D P M sx sy)
      ∧ (∀ post : SX → Prop, post (xT, xL, nI C, xG, sx.1, sx.2.1, f, sx.2.2.1, sx.2.2.2.1, sx.2.2.2.2.1, xK, xI, kk, kb, kp, kn, ki, ka, kh, kd, kf, xb, nu, rs, vt, vn, va, ve, sx.2.2.2.2.2.1, sx.2.2.2.2.2.2.1, sx.2.2.2.2.2.2.2.1, sx.2.2.2.2.2.2.2.2.1, xd, sx.2.2.2.2.2.2.2.2.2, xz, xu, xe, xc, xf) → (wpX_start post (xT, xL, nI C, xG, nI N, nI p, Z.2.1, nI d, xN, nI Z.1, xK, xI, kk, kb, kp, kn, ki, ka, kh, kd, kf, xb, nu, rs, vt, vn, va, ve, xo, xt, xp, xl, xd, Z.2.2.1, xz, xu, xe, xc, xf) (nI t)))
      ∧ (∀ post : SY → Prop, post (xT, xL, sy.1, nI C, xG, sy.2.1, sy.2.2.1, sy.2.2.2.1, sy.2.2.2.2.1, f, yO, kk, kb, kp, kf, kn, ki, ka, kg, kh, yb, sy.2.2.2.2.2.1, nu, rs, yt, ys, yc, yl, yn, yv, sy.2.2.2.2.2.2.1, sy.2.2.2.2.2.2.2.1, sy.2.2.2.2.2.2.2.2, tv, tt, tg, yp, yh) → (wpY_compose post (xT, xL, nI Z.1, nI C, xG, nI N, nI d, xN, nI p, Z.2.1, yO, kk, kb, kp, kf, kn, ki, ka, kg, kh, yb, Z.2.2.2, nu, rs, yt, ys, yc, yl, yn, yv, yo, ym, yf, tv, tt, tg, yp, yh) (nI t))) := by
  have h9 := sc_k9 hA t
  by_cases e : N = 400
  · refine ⟨-4, (nI N, nI p, nI d, xN, nI Z.1, xo, xt, xp, xl, Z.2.2.1), (nI Z.1, nI N, nI d, xN, nI p, Z.2.2.2, yo, ym, yf), fun h => absurd h (by decide), fun post k => br_t (by rw [e]; rfl) ?_, fun post k => br_t (by rw [e]; rfl) (br_f (by decide) (br_f (by decide) k))⟩
    rw [f0]
    exact xf_fail k
  have hN' : N < 400 := by omega
  by_cases e0 : D t = 0
  · exact st_0 hA hT hC ht hZ f0 hN' hd hp hS e0
  by_cases e1 : D t = 1
  · exact st_1 hA hT hC ht hZ f0 hN' hd hp hS e1
  by_cases e2 : D t = 2 ∨ D t = 3 ∨ D t = 4 ∨ D t = 8
  · exact st_num hA hT hC ht hZ f0 hN' hd hp hS e2
  by_cases e5 : D t = 5
  · exact st_5 hA hT hC ht hZ f0 hN' hd hp hS e5
  by_cases e6 : D t = 6
  · exact st_6 hA hT hC ht hZ f0 hN' hd hp hS e6
  by_cases e7 : D t = 7
  · exact st_7 hA hT hC ht hZ f0 hN' hd hp hS e7
  exact st_9 hA hT hC ht hZ f0 hN' hd hp hS (by omega)
end
end
section
section
variable {xT xL xC xG xV xA xF xD xN xS xK xI yW yV yD yR yA yF yO : Int32} {kk kb kp kn ki ka kh kd kf xb vt va ve xo xt xp xl xd xm xz xu xe xc xf kg yb yw yt ys yc yl yn yo ym yf tv tt tg yp yh : Nat → Int32} {nu rs vn yv : Nat → Int64}
variable {D B P I bb : Nat → Nat} {T L C G N d p z : Nat}

/-- one step of writing -/
theorem wo_step (hA : sc_A D B P I kk kb kp ki) (hT : sc_T T D B P I kn kh kd kg) (hC : C ≤ 100) (hZ : pt_ok (z, 0, xm, yw)) (hN : N ≤ 400) (hd : d ≤ N) (hd0 : 0 < d) (hp : p ≤ C) (hS : wr_S T D P d xo xt xp xl yo ym yf) :
    ∃ (f : Int32) (sx : wr_SX) (sy : wr_SY), (f = 0 → ∃ M, M < 2 * (400 - N) + d ∧ wr_G T C D P M sx sy)
      ∧ (∀ post : SX → Prop, post (xT, xL, nI C, xG, sx.1, sx.2.1, f, sx.2.2.1, sx.2.2.2.1, sx.2.2.2.2.1, xK, xI, kk, kb, kp, kn, ki, ka, kh, kd, kf, xb, nu, rs, vt, vn, va, ve, sx.2.2.2.2.2.1, sx.2.2.2.2.2.2.1, sx.2.2.2.2.2.2.2.1, sx.2.2.2.2.2.2.2.2.1, xd, sx.2.2.2.2.2.2.2.2.2, xz, xu, xe, xc, xf) → (wpX_startOn post (xT, xL, nI C, xG, nI N, nI p, 0, nI d, xN, nI z, xK, xI, kk, kb, kp, kn, ki, ka, kh, kd, kf, xb, nu, rs, vt, vn, va, ve, xo, xt, xp, xl, xd, xm, xz, xu, xe, xc, xf)))
      ∧ (∀ post : SY → Prop, post (xT, xL, sy.1, nI C, xG, sy.2.1, sy.2.2.1, sy.2.2.2.1, sy.2.2.2.2.1, f, yO, kk, kb, kp, kf, kn, ki, ka, kg, kh, yb, sy.2.2.2.2.2.1, nu, rs, yt, ys, yc, yl, yn, yv, sy.2.2.2.2.2.2.1, sy.2.2.2.2.2.2.2.1, sy.2.2.2.2.2.2.2.2, tv, tt, tg, yp, yh) → (wpY_writeOn post (xT, xL, nI z, nI C, xG, nI N, nI d, xN, nI p, 0, yO, kk, kb, kp, kf, kn, ki, ka, kg, kh, yb, yw, nu, rs, yt, ys, yc, yl, yn, yv, yo, ym, yf, tv, tt, tg, yp, yh))) := by
  have hT20 := sc_T20 hT
  obtain ⟨t, t1, t2, t3, t4, t7, t8, t9⟩ := hS (d - 1) (by omega)
  have t20 : t < 20 := by omega
  have vty : vp_in (nI t) 20 := vp_in_nI t20 (by decide)
  have ct : (nI t).toNatClampNeg = t := nI_clamp (by omega)
  have h9 := sc_k9 hA t
  have h5 := sc_p5 hA t
  have vd : vp_in (nI (d - 1)) 400 := vp_in_nI (by omega) (by decide)
  have vd' : vp_in (nI (d - 1)) 401 := vp_in_nI (by omega) (by decide)
  have cd : (nI (d - 1)).toNatClampNeg = d - 1 := nI_clamp (by omega)
  have K : kk (nI t).toNatClampNeg = nI (D t) := bg_ck hA t20 rfl
  have up : ∀ {xo' xp' xl' ym' yf' : Nat → Int32}, (∀ i, i ≠ d - 1 → xo' i = xo i ∧ xp' i = xp i ∧ xl' i = xl i ∧ ym' i = ym i ∧ yf' i = yf i) → wr_E T D P t (xo' (d - 1)) (xt (d - 1)) (xp' (d - 1)) (xl' (d - 1)) (yo (d - 1)) (ym' (d - 1)) (yf' (d - 1)) → wr_S T D P d xo' xt xp' xl' yo ym' yf' := by
    intro xo' xp' xl' ym' yf' h hE i hi
    by_cases e : i = d - 1
    · rw [e]; exact ⟨t, hE⟩
    · obtain ⟨a1, a2, a3, a4, a5⟩ := h i e
      rw [a1, a2, a3, a4, a5]
      exact hS i hi
  have PX : ∀ post : SX → Prop, ((kk (nI t).toNatClampNeg = 7 → (vp_in (nI (d - 1)) 400 ∧ ((xl (nI (d - 1)).toNatClampNeg ≤ 0 → (wX_startOn_65 post (nI (d - 1)) (nI t) (xp (d - 1)) xT xL (nI C) xG (nI N) (nI p) 0 (nI d) xN (nI z) xK xI kk kb kp kn ki ka kh kd kf xb nu rs vt vn va ve xo xt xp xl xd xm xz xu xe xc xf)) ∧ (¬ xl (nI (d - 1)).toNatClampNeg ≤ 0 → (vp_in (nI (d - 1)) 400 ∧ (vp_in (nI (d - 1)) 400 ∧ ∀ a_openLeft_112 : Nat → Int32, a_openLeft_112 = upd xl (nI (d - 1)).toNatClampNeg (vp_nar .byte ((xl (nI (d - 1)).toNatClampNeg - 1).toInt8.toInt32)) → (vp_in (nI t) 20 ∧ (wpX_start (fun u => match u with | (xT, xL, xC, xG, xV, xA, xF, xD, xN, xS, xK, xI, kk, kb, kp, kn, ki, ka, kh, kd, kf, xb, nu, rs, vt, vn, va, ve, xo, xt, xp, xl, xd, xm, xz, xu, xe, xc, xf) => (post (xT, xL, xC, xG, xV, xA, xF, xD, xN, xS, xK, xI, kk, kb, kp, kn, ki, ka, kh, kd, kf, xb, nu, rs, vt, vn, va, ve, xo, xt, xp, xl, xd, xm, xz, xu, xe, xc, xf))) (xT, xL, nI C, xG, nI N, nI p, 0, nI d, xN, nI z, xK, xI, kk, kb, kp, kn, ki, ka, kh, kd, kf, xb, nu, rs, vt, vn, va, ve, xo, xt, xp, a_openLeft_112, xd, xm, xz, xu, xe, xc, xf) (kb (nI t).toNatClampNeg)))))))) ) ∧ (¬ kk (nI t).toNatClampNeg = 7 → (wX_startOn_65 post (nI (d - 1)) (nI t) (xp (d - 1)) xT xL (nI C) xG (nI N) (nI p) 0 (nI d) xN (nI z) xK xI kk kb kp kn ki ka kh kd kf xb nu rs vt vn va ve xo xt xp xl xd xm xz xu xe xc xf))) → (wpX_startOn post (xT, xL, nI C, xG, nI N, nI p, 0, nI d, xN, nI z, xK, xI, kk, kb, kp, kn, ki, ka, kh, kd, kf, xb, nu, rs, vt, vn, va, ve, xo, xt, xp, xl, xd, xm, xz, xu, xe, xc, xf)) := by
    intro post k
    exact nm_r (ba_s1 hd0) (And.intro vd (nm_r (e' := nI t) (by rw [cd, t3]) ⟨vd, nm_r (e' := xp (d - 1)) (by rw [cd]) ⟨vty, k⟩⟩))
  have PY0 : yf (d - 1) = 0 → ∀ post : SY → Prop, ((kk (nI t).toNatClampNeg = 7 → wpY_put (fun u => match u with | (xT, xL, yW, xC, xG, yV, yD, yR, yA, yF, yO, kk, kb, kp, kf, kn, ki, ka, kg, kh, yb, yw, nu, rs, yt, ys, yc, yl, yn, yv, yo, ym, yf, tv, tt, tg, yp, yh) => (wY_writeOn_39 post (nI t) xT xL yW xC xG yV yD yR yA yF yO kk kb kp kf kn ki ka kg kh yb yw nu rs yt ys yc yl yn yv yo ym yf tv tt tg yp yh)) (xT, xL, nI z, nI C, xG, nI N, nI d, xN, nI p, 0, yO, kk, kb, kp, kf, kn, ki, ka, kg, kh, yb, yw, nu, rs, yt, ys, yc, yl, yn, yv, yo, ym, yf, tv, tt, tg, yp, yh) 0) ∧ (¬ kk (nI t).toNatClampNeg = 7 → (wY_writeOn_39 post (nI t) xT xL (nI z) (nI C) xG (nI N) (nI d) xN (nI p) 0 yO kk kb kp kf kn ki ka kg kh yb yw nu rs yt ys yc yl yn yv yo ym yf tv tt tg yp yh))) → (wpY_writeOn post (xT, xL, nI z, nI C, xG, nI N, nI d, xN, nI p, 0, yO, kk, kb, kp, kf, kn, ki, ka, kg, kh, yb, yw, nu, rs, yt, ys, yc, yl, yn, yv, yo, ym, yf, tv, tt, tg, yp, yh)) := by
    intro e post k
    exact nm_r (ba_s1 hd0) (And.intro vd' (nm_r (e' := nI t) (by rw [cd, t4]) ⟨vd', br_t (by rw [cd]; exact e) ⟨vty, k⟩⟩))
  have PY1 : ¬ yf (d - 1) = 0 → ∀ post : SY → Prop, ((kk (nI t).toNatClampNeg = 7 → (vp_in (nI t) 20 ∧ (wY_writeOn_129 post (kb (nI t).toNatClampNeg) xT xL (nI z) (nI C) xG (nI N) (nI d) xN (nI p) 0 yO kk kb kp kf kn ki ka kg kh yb yw nu rs yt ys yc yl yn yv yo (upd ym (d - 1) (ym (d - 1) + 1)) (upd yf (d - 1) (yf (d - 1) - 1)) tv tt tg yp yh))) ∧ (¬ kk (nI t).toNatClampNeg = 7 → (vp_in (5 * nI t + ym (d - 1)) 100 ∧ (wY_writeOn_129 post (ki (5 * nI t + ym (d - 1)).toNatClampNeg) xT xL (nI z) (nI C) xG (nI N) (nI d) xN (nI p) 0 yO kk kb kp kf kn ki ka kg kh yb yw nu rs yt ys yc yl yn yv yo (upd ym (d - 1) (ym (d - 1) + 1)) (upd yf (d - 1) (yf (d - 1) - 1)) tv tt tg yp yh)))) → (wpY_writeOn post (xT, xL, nI z, nI C, xG, nI N, nI d, xN, nI p, 0, yO, kk, kb, kp, kf, kn, ki, ka, kg, kh, yb, yw, nu, rs, yt, ys, yc, yl, yn, yv, yo, ym, yf, tv, tt, tg, yp, yh)) := by
    intro e post k
    exact nm_r (ba_s1 hd0) (And.intro vd' (nm_r (e' := nI t) (by rw [cd, t4]) ⟨vd', br_f (by rw [cd]; exact e) ⟨vd', nm_r (e' := ym (d - 1)) (by rw [cd]) ⟨vd', vd', nm_r (e' := upd ym (d - 1) (ym (d - 1) + 1)) (by rw [cd]) ⟨vd', vd', nm_r (e' := upd yf (d - 1) (yf (d - 1) - 1)) (by rw [cd]) ⟨vty, k⟩⟩⟩⟩⟩))
  by_cases e7 : D t = 7
  · have k7 : kk (nI t).toNatClampNeg = 7 := by rw [K, e7]; rfl
    obtain ⟨l, l1, l2, l3⟩ := t7 e7
    by_cases l0 : l = 0
    · subst l0
      have hZ' := pt_k hZ (c := 0) (x := 0) (y := 0) (by omega) (by decide) rfl
      refine ⟨(pt (z, 0, xm, yw) 0 0).2.1, (nI N, nI p, nI (d - 1), xN, nI (pt (z, 0, xm, yw) 0 0).1, xo, xt, xp, xl, (pt (z, 0, xm, yw) 0 0).2.2.1), (nI (pt (z, 0, xm, yw) 0 0).1, nI N, nI (d - 1), xN, nI p, (pt (z, 0, xm, yw) 0 0).2.2.2, yo, ym, yf), fun _ => ⟨2 * (400 - N) + (d - 1), by omega, N, d - 1, p, (pt (z, 0, xm, yw) 0 0).1, hN, by omega, hp, rfl, hZ', fun i hi => hS i (by omega), rfl, rfl, rfl, rfl, rfl, rfl, rfl, rfl, rfl⟩, fun post k => PX post (br_t k7 ⟨vd, br_t (by rw [cd, l2]; exact Int32.le_refl _) (And.intro vty (br_t k7 (nm_r (ba_s1 hd0) ⟨vty, br_f (by rw [k7]; decide) (And.intro vty (br_t k7 (px_put (Z := (z, 0, xm, yw)) (y := 0) hZ k)))⟩)))⟩), fun post k => PY0 (by rw [l3]; rfl) post (br_t k7 (py_put (Z := (z, 0, xm, yw)) (x := 0) hZ (And.intro vty (br_f (by rw [k7]; decide) (nm_r (ba_s1 hd0) k)))))⟩
    · have bT := (sc_bT hT e7).2
      obtain ⟨f, sx, sy, h1, hX, hY⟩ := st_main (Z := (z, 0, xm, yw)) (t := B t) (xT := xT) (xL := xL) (xG := xG) (xN := xN) (xK := xK) (xI := xI) (kn := kn) (ka := ka) (kh := kh) (kd := kd) (kf := kf) (kg := kg) (xb := xb) (nu := nu) (rs := rs) (vt := vt) (vn := vn) (va := va) (ve := ve) (xd := xd) (xz := xz) (xu := xu) (xe := xe) (xc := xc) (xf := xf) (yO := yO) (yb := yb) (yt := yt) (ys := ys) (yc := yc) (yl := yl) (yn := yn) (yv := yv) (tv := tv) (tt := tt) (tg := tg) (yp := yp) (yh := yh) (xo := xo) (xp := xp) (xl := upd xl (d - 1) (nI (l - 1))) (ym := upd ym (d - 1) (ym (d - 1) + 1)) (yf := upd yf (d - 1) (yf (d - 1) - 1)) hA hT20 hC bT hZ rfl hN hd hp (up (fun i hi => ⟨rfl, rfl, ba_un hi, ba_un hi, ba_un hi⟩) ⟨t1, t2, t3, t4, fun _ => ⟨l - 1, by omega, ba_us, by rw [ba_us, l3, ba_s1 (by omega)]⟩, fun e => by omega, fun e => by omega⟩)
      refine ⟨f, sx, sy, h1, fun post k => PX post (br_t k7 ⟨vd, br_f (by rw [cd, l2]; exact fun q => l0 ((ba_le0 (by omega)).mp q)) ⟨vd, vd, nm_r (e' := upd xl (d - 1) (nI (l - 1))) (by rw [cd, l2, ba_s1 (by omega), pk_vb, ba_b (by omega)]) ⟨vty, ?_⟩⟩⟩), fun post k => PY1 (by rw [l3]; exact fun q => l0 ((ba_e0 (by omega)).mp q)) post (br_t k7 ⟨vty, ?_⟩)⟩
      · rw [ct, sc_b hA]
        exact hX _ k
      · unfold wY_writeOn_129
        rw [ct, sc_b hA]
        exact hY _ k
  · have k7 : ¬ kk (nI t).toNatClampNeg = 7 := by rw [K]; exact fun e => e7 ((ba_e7 (by omega)).mp e)
    by_cases e8 : D t = 8
    · have k8 : kk (nI t).toNatClampNeg = 8 := by rw [K, e8]; rfl
      rcases t8 e8 with ⟨x0, y1, m, m1, m2, m3⟩ | ⟨x1, y0⟩
      · have v5 : vp_in (nI (5 * t + m)) 100 := vp_in_nI (by omega) (by decide)
        have c5 : (nI (5 * t + m)).toNatClampNeg = 5 * t + m := nI_clamp (by omega)
        have iT := sc_iT hT (5 * t + m) (by omega)
        obtain ⟨f, sx, sy, h1, hX, hY⟩ := st_main (Z := (z, 0, xm, yw)) (t := I (5 * t + m)) (xT := xT) (xL := xL) (xG := xG) (xN := xN) (xK := xK) (xI := xI) (kn := kn) (ka := ka) (kh := kh) (kd := kd) (kf := kf) (kg := kg) (xb := xb) (nu := nu) (rs := rs) (vt := vt) (vn := vn) (va := va) (ve := ve) (xd := xd) (xz := xz) (xu := xu) (xe := xe) (xc := xc) (xf := xf) (yO := yO) (yb := yb) (yt := yt) (ys := ys) (yc := yc) (yl := yl) (yn := yn) (yv := yv) (tv := tv) (tt := tt) (tg := tg) (yp := yp) (yh := yh) (xo := xo) (xp := upd xp (d - 1) 1) (xl := xl) (ym := upd ym (d - 1) (ym (d - 1) + 1)) (yf := upd yf (d - 1) (yf (d - 1) - 1)) hA hT20 hC iT hZ rfl hN hd hp (up (fun i hi => ⟨rfl, ba_un hi, rfl, ba_un hi, ba_un hi⟩) ⟨t1, t2, t3, t4, fun e => by omega, fun _ => Or.inr ⟨ba_us, by rw [ba_us, y1]; rfl⟩, fun e => by omega⟩)
        refine ⟨f, sx, sy, h1, fun post k => PX post (br_f k7 (And.intro vty (br_f k7 ⟨vty, br_t k8 (br_t x0 (And.intro vd ⟨vd, nm_r (e' := upd xp (d - 1) 1) (by rw [cd, x0]; rfl) ⟨vty, br_t k8 ⟨vd, ?_⟩⟩⟩))⟩))), fun post k => PY1 (by rw [y1]; decide) post (br_f k7 ?_)⟩
        · unfold wX_startOn_144
          rw [cd, m2, ba_5, nI_add, c5, sc_i hA]
          exact ⟨v5, hX _ k⟩
        · unfold wY_writeOn_129
          have ei : 5 * nI t + ym (d - 1) = nI (5 * t + m) := by rw [m3, ba_5, nI_add]
          rw [ei, c5, sc_i hA]
          exact ⟨v5, hY _ k⟩
      · refine ⟨0, (nI N, nI p, nI (d - 1), xN, nI z, xo, xt, xp, xl, xm), (nI z, nI N, nI (d - 1), xN, nI p, yw, yo, ym, yf), fun _ => ⟨2 * (400 - N) + (d - 1), by omega, N, d - 1, p, z, hN, by omega, hp, rfl, hZ, fun i hi => hS i (by omega), rfl, rfl, rfl, rfl, rfl, rfl, rfl, rfl, rfl⟩, fun post k => PX post (br_f k7 (And.intro vty (br_f k7 ⟨vty, br_t k8 (br_f (by rw [x1]; decide) (nm_r (ba_s1 hd0) ⟨vty, br_f (by rw [k8]; decide) (And.intro vty (br_f k7 k))⟩))⟩))), fun post k => PY0 y0 post (br_f k7 (And.intro vty (br_f (by rw [k8]; decide) (nm_r (ba_s1 hd0) k))))⟩
    · have e9 : D t = 9 := by omega
      have k8 : ¬ kk (nI t).toNatClampNeg = 8 := by rw [K]; exact fun e => e8 ((ba_e8 (by omega)).mp e)
      have k9 : kk (nI t).toNatClampNeg = 9 := by rw [K, e9]; rfl
      obtain ⟨k, k1, k2, k3, k4⟩ := t9 e9
      by_cases kP : k < P t
      · have v5 : vp_in (nI (5 * t + k)) 100 := vp_in_nI (by omega) (by decide)
        have c5 : (nI (5 * t + k)).toNatClampNeg = 5 * t + k := nI_clamp (by omega)
        have iT := sc_iT hT (5 * t + k) (by omega)
        obtain ⟨f, sx, sy, h1, hX, hY⟩ := st_main (Z := (z, 0, xm, yw)) (t := I (5 * t + k)) (xT := xT) (xL := xL) (xG := xG) (xN := xN) (xK := xK) (xI := xI) (kn := kn) (ka := ka) (kh := kh) (kd := kd) (kf := kf) (kg := kg) (xb := xb) (nu := nu) (rs := rs) (vt := vt) (vn := vn) (va := va) (ve := ve) (xd := xd) (xz := xz) (xu := xu) (xe := xe) (xc := xc) (xf := xf) (yO := yO) (yb := yb) (yt := yt) (ys := ys) (yc := yc) (yl := yl) (yn := yn) (yv := yv) (tv := tv) (tt := tt) (tg := tg) (yp := yp) (yh := yh) (xo := xo) (xp := upd xp (d - 1) (nI (k + 1))) (xl := xl) (ym := upd ym (d - 1) (ym (d - 1) + 1)) (yf := upd yf (d - 1) (yf (d - 1) - 1)) hA hT20 hC iT hZ rfl hN hd hp (up (fun i hi => ⟨rfl, ba_un hi, rfl, ba_un hi, ba_un hi⟩) ⟨t1, t2, t3, t4, fun e => by omega, fun e => by omega, fun _ => ⟨k + 1, by omega, ba_us, by rw [ba_us, k3, nI_1], by rw [ba_us, k4, ba_s1 (by omega)]; exact congrArg nI (by omega)⟩⟩)
        refine ⟨f, sx, sy, h1, fun post h => PX post (br_f k7 (And.intro vty (br_f k7 ⟨vty, br_f k8 ⟨vty, br_f (by rw [ct, sc_p hA, k2]; exact nI_ge kP (by omega)) (And.intro vd ⟨vd, nm_r (e' := upd xp (d - 1) (nI (k + 1))) (by rw [cd, k2, nI_1, pk_vb, ba_b (by omega)]) ⟨vty, br_f k8 ?_⟩⟩)⟩⟩))), fun post h => PY1 (by rw [k4]; exact fun q => by have := (ba_e0 (by omega)).mp q; omega) post (br_f k7 ?_)⟩
        · unfold wX_startOn_144
          rw [k2, ba_5, nI_add, c5, sc_i hA]
          exact ⟨v5, hX _ h⟩
        · unfold wY_writeOn_129
          have ei : 5 * nI t + ym (d - 1) = nI (5 * t + k) := by rw [k3, ba_5, nI_add]
          rw [ei, c5, sc_i hA]
          exact ⟨v5, hY _ h⟩
      · have ek : k = P t := by omega
        refine ⟨0, (nI N, nI p, nI (d - 1), xN - 1, nI z, xo, xt, xp, xl, xm), (nI z, nI N, nI (d - 1), xN - 1, nI p, yw, yo, ym, yf), fun _ => ⟨2 * (400 - N) + (d - 1), by omega, N, d - 1, p, z, hN, by omega, hp, rfl, hZ, fun i hi => hS i (by omega), rfl, rfl, rfl, rfl, rfl, rfl, rfl, rfl, rfl⟩, fun post h => PX post (br_f k7 (And.intro vty (br_f k7 ⟨vty, br_f k8 ⟨vty, br_t (by rw [ct, sc_p hA, k2]; exact nI_le (by omega) (by omega)) (nm_r (ba_s1 hd0) ⟨vty, br_t k9 (nm_e (And.intro vty (br_f k7 h)))⟩)⟩⟩))), fun post h => PY0 (by rw [k4, ek, Nat.sub_self]; rfl) post (br_f k7 (And.intro vty (br_t k9 (nm_e (nm_r (ba_s1 hd0) h)))))⟩
theorem wo_loop (hA : sc_A D B P I kk kb kp ki) (hT : sc_T T D B P I kn kh kd kg) (hC : C ≤ 100) : ∀ (m M : Nat) (sx : wr_SX) (sy : wr_SY), M < m → wr_G T C D P M sx sy →
    ∃ (f : Int32) (sx' : wr_SX) (sy' : wr_SY), (f = 0 → ∃ M', wr_G T C D P M' sx' sy')
      ∧ (∀ post : Int32 → SX → Prop, (fun sx => (wX_write_55 post xT xL (nI C) xG sx.1 sx.2.1 f sx.2.2.1 sx.2.2.2.1 sx.2.2.2.2.1 xK xI kk kb kp kn ki ka kh kd kf xb nu rs vt vn va ve sx.2.2.2.2.2.1 sx.2.2.2.2.2.2.1 sx.2.2.2.2.2.2.2.1 sx.2.2.2.2.2.2.2.2.1 xd sx.2.2.2.2.2.2.2.2.2 xz xu xe xc xf)) sx' → ∃ n, (wX_write_34 post n xT xL (nI C) xG sx.1 sx.2.1 0 sx.2.2.1 sx.2.2.2.1 sx.2.2.2.2.1 xK xI kk kb kp kn ki ka kh kd kf xb nu rs vt vn va ve sx.2.2.2.2.2.1 sx.2.2.2.2.2.2.1 sx.2.2.2.2.2.2.2.1 sx.2.2.2.2.2.2.2.2.1 xd sx.2.2.2.2.2.2.2.2.2 xz xu xe xc xf))
      ∧ (∀ post : Int32 → SY → Prop, (fun sy => (wY_write_72 post xT xL sy.1 (nI C) xG sy.2.1 sy.2.2.1 sy.2.2.2.1 sy.2.2.2.2.1 f yO kk kb kp kf kn ki ka kg kh yb sy.2.2.2.2.2.1 nu rs yt ys yc yl yn yv sy.2.2.2.2.2.2.1 sy.2.2.2.2.2.2.2.1 sy.2.2.2.2.2.2.2.2 tv tt tg yp yh)) sy' → ∃ n, (wY_write_51 post n xT xL sy.1 (nI C) xG sy.2.1 sy.2.2.1 sy.2.2.2.1 sy.2.2.2.2.1 0 yO kk kb kp kf kn ki ka kg kh yb sy.2.2.2.2.2.1 nu rs yt ys yc yl yn yv sy.2.2.2.2.2.2.1 sy.2.2.2.2.2.2.2.1 sy.2.2.2.2.2.2.2.2 tv tt tg yp yh)) := by
  intro m
  induction m with
  | zero => intro M sx sy h; omega
  | succ m ih =>
    intro M sx sy hm hG
    have hG0 := hG
    obtain ⟨xV, xA, xD, xN, xS, xo, xt, xp, xl, xm⟩ := sx
    obtain ⟨yW, yV, yD, yR, yA, yw, yo, ym, yf⟩ := sy
    obtain ⟨N, d, p, z, hN, hd, hp, hM, hZ, hS, e1, e2, e3, e4, e5, e6, e7, e8, e9⟩ := hG
    dsimp only at hZ hS e1 e2 e3 e4 e5 e6 e7 e8 e9
    subst e1 e2 e3 e4 e5 e6 e7 e8 e9
    by_cases z0 : d = 0
    · subst z0
      exact ⟨0, _, _, fun _ => ⟨M, hG0⟩, fun post k => ⟨1, br_t rfl (br_t (show nI 0 ≤ 0 by decide) k)⟩, fun post k => ⟨1, br_t (show nI 0 ≤ 0 by decide) k⟩⟩
    · have nd : ¬ nI d ≤ 0 := fun q => z0 ((ba_le0 (by omega)).mp q)
      obtain ⟨f, sx1, sy1, h1, hX, hY⟩ := wo_step (xT := xT) (xL := xL) (xG := xG) (xK := xK) (xI := xI) (ka := ka) (kf := kf) (xb := xb) (nu := nu) (rs := rs) (vt := vt) (vn := vn) (va := va) (ve := ve) (xd := xd) (xz := xz) (xu := xu) (xe := xe) (xc := xc) (xf := xf) (yO := yO) (yb := yb) (yt := yt) (ys := ys) (yc := yc) (yl := yl) (yn := yn) (yv := yv) (tv := tv) (tt := tt) (tg := tg) (yp := yp) (yh := yh) hA hT hC hZ hN hd (by omega) hp hS
      by_cases hf : f = 0
      · subst hf
        obtain ⟨M1, hM1, hG1⟩ := h1 rfl
        obtain ⟨f2, sx2, sy2, h2, hX2, hY2⟩ := ih M1 sx1 sy1 (by omega) hG1
        refine ⟨f2, sx2, sy2, h2, fun post k => ?_, fun post k => ?_⟩
        · obtain ⟨n, hn⟩ := hX2 post k
          exact ⟨n + 1, br_t rfl (br_f nd (hX _ hn))⟩
        · obtain ⟨n, hn⟩ := hY2 post k
          exact ⟨n + 1, br_f nd (br_t rfl (hY _ hn))⟩
      · refine ⟨f, sx1, sy1, fun q => absurd q hf, fun post k => ⟨2, br_t rfl (br_f nd (hX _ (br_f hf k)))⟩, fun post k => ⟨2, br_f nd (br_t rfl (hY _ ?_))⟩⟩
        exact br_c (fun _ => k) (fun _ => br_f hf k)
/-- what was made becomes the bytes -/
theorem wo_copy (hZ : pt_ok (z, 0, xm, yw)) : ∀ (m i : Nat) (xb yb : Nat → Int32) (bb : Nat → Nat), i + m = z → by_ok xb yb bb →
    ∃ (xb' yb' : Nat → Int32) (bb' : Nat → Nat), by_ok xb' yb' bb'
      ∧ (∀ post : Int32 → SX → Prop, post (nI z) (xT, nI z, xC, xG, xV, xA, xF, xD, xN, nI z, xK, xI, kk, kb, kp, kn, ki, ka, kh, kd, kf, xb', nu, rs, vt, vn, va, ve, xo, xt, xp, xl, xd, xm, xz, xu, xe, xc, xf) → ∃ n, (wX_write_93 post xT xL xC xG xV xA xF xD xN (nI z) xK xI n (nI i) kk kb kp kn ki ka kh kd kf xb nu rs vt vn va ve xo xt xp xl xd xm xz xu xe xc xf))
      ∧ (∀ post : Int32 → SY → Prop, post (nI z) (xT, nI z, nI z, xC, xG, yV, yD, yR, yA, yF, yO, kk, kb, kp, kf, kn, ki, ka, kg, kh, yb', yw, nu, rs, yt, ys, yc, yl, yn, yv, yo, ym, yf, tv, tt, tg, yp, yh) → ∃ n, (wY_write_110 post xT xL (nI z) xC xG yV yD yR yA yF yO n (nI i) kk kb kp kf kn ki ka kg kh yb yw nu rs yt ys yc yl yn yv yo ym yf tv tt tg yp yh)) := by
  intro m
  obtain ⟨z1, zb⟩ := hZ
  have z1' : z ≤ 100 := z1
  induction m with
  | zero =>
    intro i xb yb bb hi hB
    exact ⟨xb, yb, bb, hB, fun post k => ⟨1, br_t (nI_le (by omega) (by omega)) k⟩, fun post k => ⟨1, br_t (nI_le (by omega) (by omega)) k⟩⟩
  | succ m ih =>
    intro i xb yb bb hi hB
    obtain ⟨c, c1, c2, c3⟩ := zb i (by show i < z; omega)
    have c2' : xm i &&& 255 = nI c := c2
    have c3' : yw i = nI c := c3
    have vi : vp_in (nI i) 100 := vp_in_nI (by omega) (by decide)
    have ci : (nI i).toNatClampNeg = i := nI_clamp (by omega)
    have hx : vp_nar .byte (xm i) &&& 255 = nI c := by rw [vp_nar_byte, bp_b]; exact c2'
    obtain ⟨xb', yb', bb', hB', hX, hY⟩ := ih (i + 1) _ _ _ (by omega) (by_st hB i hx c3' c1)
    refine ⟨xb', yb', bb', hB', fun post k => ?_, fun post k => ?_⟩
    · obtain ⟨n, hn⟩ := hX post k
      exact ⟨n + 1, br_f (nI_ge (by omega) (by omega)) ⟨vi, vi, nm_r (e' := upd xb i (vp_nar .byte (xm i))) (by rw [ci]) (nm_r (nI_1 i) hn)⟩⟩
    · obtain ⟨n, hn⟩ := hY post k
      exact ⟨n + 1, br_f (nI_ge (by omega) (by omega)) ⟨vi, vi, nm_r (e' := upd yb i (yw i)) (by rw [ci]) (nm_r (nI_1 i) hn)⟩⟩
end
end
section
section
variable {xT xL xC xG xV xA xF xD xN xS xK xI yW yV yD yR yA yF yO : Int32} {kk kb kp kn ki ka kh kd kf xb vt va ve xo xt xp xl xd xm xz xu xe xc xf kg yb yw yt ys yc yl yn yo ym yf tv tt tg yp yh : Nat → Int32} {nu rs vn yv : Nat → Int64}
variable {D B P I bb : Nat → Nat} {T L C G : Nat}

theorem wq_end {k : Nat} (F : re_F T L C G D B P I bb xK xI kk kb kp kn ki ka kh kd kf kg xb yb xz xu xc) (f : Int32) (sx : wr_SX) (sy : wr_SY) (h : f = 0 → ∃ M, wr_G T C D P M sx sy) :
    ∃ (r : Int32) (u : SX) (v : SY), i_Rel k u v ∧ (∀ post : Int32 → SX → Prop, post r u → (wX_write_55 post (nI T) (nI L) (nI C) (nI G) sx.1 sx.2.1 f sx.2.2.1 sx.2.2.2.1 sx.2.2.2.2.1 xK xI kk kb kp kn ki ka kh kd kf xb nu rs vt vn va ve sx.2.2.2.2.2.1 sx.2.2.2.2.2.2.1 sx.2.2.2.2.2.2.2.1 sx.2.2.2.2.2.2.2.2.1 xd sx.2.2.2.2.2.2.2.2.2 xz xu xe xc xf)) ∧ (∀ post : Int32 → SY → Prop, post r v → (wY_write_72 post (nI T) (nI L) sy.1 (nI C) (nI G) sy.2.1 sy.2.2.1 sy.2.2.2.1 sy.2.2.2.2.1 f yO kk kb kp kf kn ki ka kg kh yb sy.2.2.2.2.2.1 nu rs yt ys yc yl yn yv sy.2.2.2.2.2.2.1 sy.2.2.2.2.2.2.2.1 sy.2.2.2.2.2.2.2.2 tv tt tg yp yh)) := by
  by_cases hf : f = 0
  · subst hf
    obtain ⟨M, hG⟩ := h rfl
    obtain ⟨hA, hS, ⟨hL, hC, hGG⟩, hB, hpl, hkn⟩ := F
    obtain ⟨xV, xA, xD, xN, xS, xo, xt, xp, xl, xm⟩ := sx
    obtain ⟨yW, yV, yD, yR, yA, yw, yo, ym, yf⟩ := sy
    obtain ⟨N, d, p, z, hN, hd, hp, hM, hZ, hSS, e1, e2, e3, e4, e5, e6, e7, e8, e9⟩ := hG
    dsimp only at hZ hSS e1 e2 e3 e4 e5 e6 e7 e8 e9
    subst e1 e2 e4 e5 e6 e8
    by_cases e : p = C
    · subst e
      obtain ⟨xb', yb', bb', hB', hX, hY⟩ := wo_copy (xT := nI T) (xL := nI L) (xC := nI p) (xG := nI G) (xV := nI N) (xA := nI p) (xF := 0) (xD := xD) (xN := xN) (xK := xK) (xI := xI) (kk := kk) (kb := kb) (kp := kp) (kn := kn) (ki := ki) (ka := ka) (kh := kh) (kd := kd) (kf := kf) (kg := kg) (nu := nu) (rs := rs) (vt := vt) (vn := vn) (va := va) (ve := ve) (xo := xo) (xt := xt) (xp := xp) (xl := xl) (xd := xd) (xz := xz) (xu := xu) (xe := xe) (xc := xc) (xf := xf) (yV := nI N) (yD := yD) (yR := yR) (yA := nI p) (yF := 0) (yO := yO) (yt := yt) (ys := ys) (yc := yc) (yl := yl) (yn := yn) (yv := yv) (yo := yo) (ym := ym) (yf := yf) (tv := tv) (tt := tt) (tg := tg) (yp := yp) (yh := yh) hZ z 0 xb yb bb (by omega) hB
      have z1 : z ≤ 100 := hZ.1
      exact ⟨nI z, _, _, re_in (k := k) (L := z) (bb := bb') (xb := xb') (yb := yb') ⟨hA, hS, ⟨z1, hC, hGG⟩, hB', hpl, hkn⟩, fun post h => br_t rfl (br_t (Int32.le_refl _) (br_t rfl (hX post h))), fun post h => br_t rfl (br_t (Int32.le_refl _) (br_t rfl (hY post h)))⟩
    · have nl : ¬ nI C ≤ nI p := nI_ge (by omega) (by omega)
      exact ⟨-8, _, _, re_in (k := k) ⟨hA, hS, ⟨hL, hC, hGG⟩, hB, hpl, hkn⟩, fun post h => br_t rfl (br_f nl (xf_fail (br_f (by decide) h))), fun post h => br_t rfl (br_f nl (br_f (by decide) h))⟩
  · exact ⟨f, _, _, re_in (k := k) F, fun post h => br_f hf (br_f hf h), fun post h => br_f hf (br_f hf h)⟩
theorem sm_write {k : Nat} (F : re_F T L C G D B P I bb xK xI kk kb kp kn ki ka kh kd kf kg xb yb xz xu xc) (v1 : Int32) : wpX_write (fun r u' => wpY_write (fun r' v' => r' = r ∧ i_Rel (k + 7) u' v') (nI T, nI L, yW, nI C, nI G, yV, yD, yR, yA, yF, yO, kk, kb, kp, kf, kn, ki, ka, kg, kh, yb, yw, nu, rs, yt, ys, yc, yl, yn, yv, yo, ym, yf, tv, tt, tg, yp, yh) v1) (nI T, nI L, nI C, nI G, xV, xA, xF, xD, xN, xS, xK, xI, kk, kb, kp, kn, ki, ka, kh, kd, kf, xb, nu, rs, vt, vn, va, ve, xo, xt, xp, xl, xd, xm, xz, xu, xe, xc, xf) v1 := by
  have hT : T ≤ 20 := F.2.1.1
  have F' := F
  obtain ⟨hA, hS, ⟨hL, hC, hG⟩, hB, hpl, hkn⟩ := F'
  unfold wpX_write wpY_write
  rcases sm_ix v1 (n := T) (by omega) with h | ⟨t, ht, rfl⟩
  · exact xf_isType_n h (br_t rfl (yf_isT_n hT h (br_t rfl ⟨rfl, re_in F⟩)))
  obtain ⟨f, sx, sy, h1, hX, hY⟩ := st_main (Z := (0, 0, xm, yw)) (t := t) (N := 0) (d := 0) (p := 0) (xN := 0) (xT := nI T) (xL := nI L) (xG := nI G) (xK := xK) (xI := xI) (kn := kn) (ka := ka) (kh := kh) (kd := kd) (kf := kf) (kg := kg) (xb := xb) (nu := nu) (rs := rs) (vt := vt) (vn := vn) (va := va) (ve := ve) (xo := xo) (xt := xt) (xp := xp) (xl := xl) (xd := xd) (xz := xz) (xu := xu) (xe := xe) (xc := xc) (xf := xf) (yO := yO) (yb := yb) (yt := yt) (ys := ys) (yc := yc) (yl := yl) (yn := yn) (yv := yv) (yo := yo) (ym := ym) (yf := yf) (tv := tv) (tt := tt) (tg := tg) (yp := yp) (yh := yh) hA hT hC ht ⟨by show 0 ≤ 100; omega, fun j (hj : j < 0) => by omega⟩ rfl (by omega) (by omega) (by omega) (fun i hi => by omega)
  have J : ∃ (r : Int32) (u : SX) (v : SY), i_Rel (k + 7) u v ∧ (∀ post : Int32 → SX → Prop, post r u → ∃ n, (wX_write_34 post n (nI T) (nI L) (nI C) (nI G) sx.1 sx.2.1 f sx.2.2.1 sx.2.2.2.1 sx.2.2.2.2.1 xK xI kk kb kp kn ki ka kh kd kf xb nu rs vt vn va ve sx.2.2.2.2.2.1 sx.2.2.2.2.2.2.1 sx.2.2.2.2.2.2.2.1 sx.2.2.2.2.2.2.2.2.1 xd sx.2.2.2.2.2.2.2.2.2 xz xu xe xc xf)) ∧ (∀ post : Int32 → SY → Prop, post r v → ∃ n, (wY_write_51 post n (nI T) (nI L) sy.1 (nI C) (nI G) sy.2.1 sy.2.2.1 sy.2.2.2.1 sy.2.2.2.2.1 f yO kk kb kp kf kn ki ka kg kh yb sy.2.2.2.2.2.1 nu rs yt ys yc yl yn yv sy.2.2.2.2.2.2.1 sy.2.2.2.2.2.2.2.1 sy.2.2.2.2.2.2.2.2 tv tt tg yp yh)) := by
    by_cases hf : f = 0
    · subst hf
      obtain ⟨M, hM0, hM⟩ := h1 rfl
      obtain ⟨f2, sx2, sy2, h2, hX2, hY2⟩ := wo_loop (xT := nI T) (xL := nI L) (xG := nI G) (xK := xK) (xI := xI) (ka := ka) (kf := kf) (xb := xb) (nu := nu) (rs := rs) (vt := vt) (vn := vn) (va := va) (ve := ve) (xd := xd) (xz := xz) (xu := xu) (xe := xe) (xc := xc) (xf := xf) (yO := yO) (yb := yb) (yt := yt) (ys := ys) (yc := yc) (yl := yl) (yn := yn) (yv := yv) (tv := tv) (tt := tt) (tg := tg) (yp := yp) (yh := yh) hA hS hC (M + 1) M sx sy (by omega) hM
      obtain ⟨r, u, v, hI, hX3, hY3⟩ := wq_end (k := k + 7) (nu := nu) (rs := rs) (vt := vt) (vn := vn) (va := va) (ve := ve) (xd := xd) (xe := xe) (xf := xf) (yO := yO) (yt := yt) (ys := ys) (yc := yc) (yl := yl) (yn := yn) (yv := yv) (tv := tv) (tt := tt) (tg := tg) (yp := yp) (yh := yh) F f2 sx2 sy2 h2
      exact ⟨r, u, v, hI, fun post h => hX2 post (hX3 post h), fun post h => hY2 post (hY3 post h)⟩
    · obtain ⟨r, u, v, hI, hX3, hY3⟩ := wq_end (k := k + 7) (nu := nu) (rs := rs) (vt := vt) (vn := vn) (va := va) (ve := ve) (xd := xd) (xe := xe) (xf := xf) (yO := yO) (yt := yt) (ys := ys) (yc := yc) (yl := yl) (yn := yn) (yv := yv) (tv := tv) (tt := tt) (tg := tg) (yp := yp) (yh := yh) F f sx sy (fun h => absurd h hf)
      exact ⟨r, u, v, hI, fun post h => ⟨1, br_f hf (hX3 post h)⟩, fun post h => ⟨1, br_c (fun _ => hY3 post h) (fun _ => br_f hf (hY3 post h))⟩⟩
  obtain ⟨r, u, v, hI, hX2, hY2⟩ := J
  refine xf_isType_y hT ht (br_f (by decide) ?_)
  unfold wpX_restart
  refine hX _ (hX2 _ ?_)
  exact yf_isT_y hT ht (br_f (by decide) (hY _ (hY2 _ ⟨rfl, hI⟩)))
end
end
section
section
variable {xT xL xC xG xV xA xF xD xN xS xK xI yW yV yD yR yA yF yO : Int32} {kk kb kp kn ki ka kh kd kf xb vt va ve xo xt xp xl xd xm xz xu xe xc xf kg yb yw yt ys yc yl yn yo ym yf tv tt tg yp yh : Nat → Int32} {nu rs vn yv : Nat → Int64}
variable {D B P I : Nat → Nat} {T : Nat}
/-! counts -/
theorem ct_le {q q' : Nat → Bool} : ∀ n, (∀ i, i < n → q' i = true → q i = true) → pa_ct q' n ≤ pa_ct q n := by
  intro n
  induction n with
  | zero => exact fun _ => Nat.le_refl _
  | succ n ih =>
    intro h
    have a := ih (fun i hi => h i (by omega))
    have b := h n (by omega)
    show pa_ct q' n + (if q' n = true then 1 else 0) ≤ pa_ct q n + (if q n = true then 1 else 0)
    by_cases e : q' n = true
    · rw [if_pos e, if_pos (b e)]; omega
    · rw [if_neg e]; omega
theorem ct_lt {q q' : Nat → Bool} : ∀ n, (∀ i, i < n → q' i = true → q i = true) → (∃ j, j < n ∧ q j = true ∧ ¬ q' j = true) → pa_ct q' n < pa_ct q n := by
  intro n
  induction n with
  | zero => intro _ h; obtain ⟨j, hj, _⟩ := h; omega
  | succ n ih =>
    intro h hj
    obtain ⟨j, hj, j1, j2⟩ := hj
    show pa_ct q' n + (if q' n = true then 1 else 0) < pa_ct q n + (if q n = true then 1 else 0)
    by_cases e : j = n
    · subst e
      have a := ct_le j (fun i hi => h i (by omega))
      rw [if_neg j2, if_pos j1]; omega
    · have a := ih (fun i hi => h i (by omega)) ⟨j, by omega, j1, j2⟩
      have b := h n (by omega)
      by_cases e : q' n = true
      · rw [if_pos e, if_pos (b e)]; omega
      · rw [if_neg e]; omega
theorem ct_n {q : Nat → Bool} : ∀ n, pa_ct q n ≤ n := by
  intro n
  induction n with
  | zero => exact Nat.le_refl _
  | succ n ih =>
    show pa_ct q n + (if q n = true then 1 else 0) ≤ n + 1
    split <;> omega
theorem ct_eq {q q' : Nat → Bool} : ∀ n, (∀ i, i < n → (q' i = true ↔ q i = true)) → pa_ct q' n = pa_ct q n := fun n h =>
  Nat.le_antisymm (ct_le n (fun i hi => (h i hi).mp)) (ct_le n (fun i hi => (h i hi).mpr))
/-- how many are not crossed out -/
def ct_z (a : Nat → Int32) (v : Int32) (n : Nat) : Nat := pa_ct (fun i => decide (a i = v)) n
theorem ct_zlt {a a' : Nat → Int32} {v : Int32} {n : Nat} (h : ∀ i, i < n → a' i = v → a i = v) (hj : ∃ j, j < n ∧ a j = v ∧ ¬ a' j = v) : ct_z a' v n < ct_z a v n := by
  refine ct_lt n (fun i hi e => decide_eq_true (h i hi (of_decide_eq_true e))) ?_
  obtain ⟨j, hj, j1, j2⟩ := hj
  exact ⟨j, hj, decide_eq_true j1, fun e => j2 (of_decide_eq_true e)⟩
/-- a row of truths -/
theorem ct_ex (p : Nat → Prop) : ∃ q : Nat → Bool, ∀ i, q i = true ↔ p i := by
  refine ⟨fun i => @decide (p i) (Classical.propDecidable _), fun i => ?_⟩
  exact @decide_eq_true_iff (p i) (Classical.propDecidable _)
/-! the least and the greatest sets -/
theorem pb_mono {S S' : Nat → Prop} (h : ∀ j, S j → S' j) {t : Nat} (hb : pa_bb D P I kh S t) : pa_bb D P I kh S' t := by
  rcases hb with a | ⟨a, b⟩ | ⟨a, k, b, c⟩
  · exact Or.inl a
  · exact Or.inr (Or.inl ⟨a, b.imp id (h _)⟩)
  · exact Or.inr (Or.inr ⟨a, k, b, c.imp id (h _)⟩)
theorem pb_cl {t : Nat} (ht : t < T) (h : pa_bb D P I kh (pa_B T D P I kh) t) : pa_B T D P I kh t := by
  intro S hS
  exact hS t ht (pb_mono (fun j hj => hj S hS) h)
theorem pp_mono {E : Nat → Prop} {S S' : Nat → Nat → Prop} (h : ∀ a b, S a b → S' a b) {w r : Nat} (hb : pa_pb D B P I kn ka kh kf E S w r) : pa_pb D B P I kn ka kh kf E S' w r := by
  rcases hb with ⟨a, k, b, c⟩ | ⟨a, b, c⟩ | ⟨a, b, c⟩
  · exact Or.inl ⟨a, k, b, h _ _ c⟩
  · refine Or.inr (Or.inl ⟨a, b, c.imp id ?_⟩)
    rintro ⟨f, f1, f2, f3⟩
    exact ⟨f, f1, f2, h _ _ f3⟩
  · refine Or.inr (Or.inr ⟨a, b, c.imp id ?_⟩)
    rintro ⟨c1, c2⟩
    refine ⟨c1, ?_⟩
    rcases c2 with ⟨d1, d2⟩ | d | ⟨d1, k, d2, d3⟩
    · exact Or.inl ⟨d1, h _ _ d2⟩
    · exact Or.inr (Or.inl d)
    · refine Or.inr (Or.inr ⟨d1, k, d2, d3.imp id ?_⟩)
      rintro ⟨f, f1, f2, f3⟩
      exact ⟨f, f1, f2, h _ _ f3⟩
theorem pp_cl {w r : Nat} (hw : w < T) (hr : r < T) (h : pa_pb D B P I kn ka kh kf (pa_B T D P I kh) (pa_U T D B P I kn ka kh kf) w r) : pa_U T D B P I kn ka kh kf w r := by
  intro S hS
  exact hS w r hw hr (pp_mono (fun a b hj => hj S hS) h)
theorem lk_mono {R R' : Nat → Nat → Prop} (h : ∀ a b, R a b → R' a b) {t u : Nat} (hb : pa_lk D B P I kn ka kh kd kf R t u) : pa_lk D B P I kn ka kh kd kf R' t u := by
  obtain ⟨a1, a2, a3, a4, a5, a6⟩ := hb
  exact ⟨a1, a2, a3, fun e => h _ _ (a4 e), a5, fun e1 e2 k hk => ⟨(a6 e1 e2 k hk).1, fun e => h _ _ ((a6 e1 e2 k hk).2.1 e), (a6 e1 e2 k hk).2.2⟩⟩
theorem lk_un {t u : Nat} (ht : t < T) (hu : u < T) (h : pa_S T D B P I kn ka kh kd kf t u) : pa_lk D B P I kn ka kh kd kf (pa_S T D B P I kn ka kh kd kf) t u := by
  obtain ⟨R, h1, h2⟩ := h
  exact lk_mono (fun a b hab => ⟨R, h1, hab⟩) (h1 t u ht hu h2)
theorem lk_symm {R R' : Nat → Nat → Prop} (h : ∀ a b, R a b → R' b a) {t u : Nat} (hb : pa_lk D B P I kn ka kh kd kf R t u) : pa_lk D B P I kn ka kh kd kf R' u t := by
  obtain ⟨a1, a2, a3, a4, a5, a6⟩ := hb
  refine ⟨a1.symm, a2.symm, fun e => (a3 (by omega)).symm, fun e => h _ _ (a4 (by omega)), fun e => (a5 (by omega)).symm, fun e1 e2 k hk => ?_⟩
  obtain ⟨b1, b2, b3⟩ := a6 (by omega) (by omega) k (by omega)
  exact ⟨fun e => (b1 (by omega)).symm, fun e => h _ _ (b2 (by omega)), fun e => ⟨(b3 (by omega)).1.symm, (b3 (by omega)).2.1.symm, (b3 (by omega)).2.2.symm⟩⟩
theorem lk_trans {R : Nat → Nat → Prop} (h : ∀ a b c, R a b → R b c → R a c) {t u v : Nat} (hb : pa_lk D B P I kn ka kh kd kf R t u) (hc : pa_lk D B P I kn ka kh kd kf R u v) : pa_lk D B P I kn ka kh kd kf R t v := by
  obtain ⟨a1, a2, a3, a4, a5, a6⟩ := hb
  obtain ⟨c1, c2, c3, c4, c5, c6⟩ := hc
  refine ⟨a1.trans c1, a2.trans c2, fun e => (a3 e).trans (c3 (by omega)), fun e => h _ _ _ (a4 e) (c4 (by omega)), fun e => (a5 e).trans (c5 (by omega)), fun e1 e2 k hk => ?_⟩
  obtain ⟨b1, b2, b3⟩ := a6 e1 e2 k hk
  obtain ⟨d1, d2, d3⟩ := c6 (by omega) (by omega) k (by omega)
  exact ⟨fun e => (b1 e).trans (d1 (by omega)), fun e => h _ _ _ (b2 e) (d2 (by omega)), fun e => ⟨(b3 e).1.trans (d3 (by omega)).1, (b3 e).2.1.trans (d3 (by omega)).2.1, (b3 e).2.2.trans (d3 (by omega)).2.2⟩⟩
theorem lk_refl {R : Nat → Nat → Prop} (h : ∀ a, R a a) (t : Nat) : pa_lk D B P I kn ka kh kd kf R t t :=
  ⟨rfl, rfl, fun _ => rfl, fun _ => h _, fun _ => rfl, fun _ _ k _ => ⟨fun _ => rfl, fun _ => h _, fun _ => ⟨rfl, rfl, rfl⟩⟩⟩
theorem sa_symm {t u : Nat} (h : pa_S T D B P I kn ka kh kd kf t u) : pa_S T D B P I kn ka kh kd kf u t := by
  obtain ⟨R, h1, h2⟩ := h
  exact ⟨fun a b => R b a, fun a b ha hb hab => lk_symm (fun x y q => q) (h1 b a hb ha hab), h2⟩
/-- one partition finer than another, and as many of its parts: they are the same -/
theorem ct_same {A E : Nat → Nat → Prop} {qa qe : Nat → Bool} (ha : ∀ t, t < T → (qa t = true ↔ ∀ u, u < t → ¬ A t u)) (he : ∀ t, t < T → (qe t = true ↔ ∀ u, u < t → ¬ E t u))
    (sub : ∀ t u, t < T → u < T → A t u → E t u) (rA : ∀ t, A t t) (sA : ∀ t u, A t u → A u t) (tA : ∀ t u v, A t u → A u v → A t v) (sE : ∀ t u, E t u → E u t) (tE : ∀ t u v, E t u → E u v → E t v)
    (hc : pa_ct qe T = pa_ct qa T) : ∀ t u, t < T → u < T → E t u → A t u := by
  have first : ∀ t, t < T → qa t = true → qe t = true := by
    intro t ht h
    refine Classical.byContradiction fun hn => ?_
    have := ct_lt (q := qa) (q' := qe) T (fun i hi e => (ha i hi).mpr (fun u hu a => (he i hi).mp e u hu (sub i u hi (by omega) a))) ⟨t, ht, h, hn⟩
    omega
  have least : ∀ t, t < T → ∃ r, r < T ∧ A t r ∧ qa r = true := by
    intro t ht
    obtain ⟨r, r1, r2⟩ := pk_least (fun v => A t v) ⟨t, rA t⟩
    have rt : r ≤ t := by
      rcases Nat.lt_or_ge t r with z | z
      · exact absurd (rA t) (r2 t z)
      · exact z
    exact ⟨r, by omega, r1, (ha r (by omega)).mpr (fun u hu a => r2 u hu (tA _ _ _ r1 a))⟩
  intro t u ht hu e
  obtain ⟨r, r0, r1, r2⟩ := least t ht
  obtain ⟨s, s0, s1, s2⟩ := least u hu
  have ers : E r s := tE _ _ _ (sE _ _ (sub t r ht r0 r1)) (tE _ _ _ e (sub u s hu s0 s1))
  have hrs : r = s := by
    rcases Nat.lt_trichotomy r s with z | z | z
    · exact absurd (sE _ _ ers) ((he s s0).mp (first s s0 s2) r z)
    · exact z
    · exact absurd ers ((he r r0).mp (first r r0 r2) s z)
  rw [← hrs] at s1
  exact tA _ _ _ r1 (sA _ _ s1)
end
end
section
section
variable {xT xL xC xG xV xA xF xD xN xS xK xI yW yV yD yR yA yF yO : Int32} {kk kb kp kn ki ka kh kd kf xb vt va ve xo xt xp xl xd xm xz xu xe xc xf kg yb yw yt ys yc yl yn yo ym yf tv tt tg yp yh : Nat → Int32} {nu rs vn yv : Nat → Int64}
variable {D B P I : Nat → Nat} {T : Nat}
/-! X: types that look alike -/
def al_k (D I : Nat → Nat) (kn ka kh kd xc : Nat → Int32) (t u k : Nat) : Prop :=
  (¬ D t = 8 → kn (5 * t + k) = kn (5 * u + k)) ∧ (¬ D t = 5 → xc (I (5 * t + k)) = xc (I (5 * u + k))) ∧ (D t = 9 → ka (5 * t + k) = ka (5 * u + k) ∧ kh (5 * t + k) = kh (5 * u + k) ∧ kd (5 * t + k) = kd (5 * u + k))
def al (D B P I : Nat → Nat) (kn ka kh kd kf xc : Nat → Int32) (t u : Nat) : Prop := pa_lk D B P I kn ka kh kd kf (fun a b => xc a = xc b) t u ∧ xc t = xc u
theorem al_241 (hA : sc_A D B P I kk kb kp ki) {post J150 : Int32 → Prop} {t u k : Nat} (ht : t < 20) (hu : u < 20) (hk : k < 5) {x2 : Int32}
    (hJ : (D t = 9 → ka (5 * t + k) = ka (5 * u + k) ∧ kh (5 * t + k) = kh (5 * u + k) ∧ kd (5 * t + k) = kd (5 * u + k)) → J150 (nI (k + 1))) (h0 : ¬ (D t = 9 → ka (5 * t + k) = ka (5 * u + k) ∧ kh (5 * t + k) = kh (5 * u + k) ∧ kd (5 * t + k) = kd (5 * u + k)) → post 0) :
    (wX_alike_241 post J150 (nI t) x2 (nI k) (nI (5 * t + k)) (nI (5 * u + k)) xT xL xC xG xV xA xF xD xN xS xK xI kk kb kp kn ki ka kh kd kf xb nu rs vt vn va ve xo xt xp xl xd xm xz xu xe xc xf) := by
  have vt' : vp_in (nI t) 20 := vp_in_nI ht (by decide)
  have h9 := sc_k9 hA t
  have v4 : vp_in (nI (5 * t + k)) 100 := vp_in_nI (by omega) (by decide)
  have v5 : vp_in (nI (5 * u + k)) 100 := vp_in_nI (by omega) (by decide)
  have c4 : (nI (5 * t + k)).toNatClampNeg = 5 * t + k := nI_clamp (by omega)
  have c5 : (nI (5 * u + k)).toNatClampNeg = 5 * u + k := nI_clamp (by omega)
  unfold wX_alike_241
  rw [c4, c5]
  refine ⟨vt', ?_⟩
  rw [bg_ck hA ht rfl]
  by_cases e9 : D t = 9
  · refine br_t (by rw [e9]; rfl) ⟨v4, v5, br_c (fun q1 => ⟨v4, v5, br_c (fun q2 => ⟨v4, v5, br_c (fun q3 => nm_r (nI_1 k) (hJ (fun _ => ⟨q1, q2, q3⟩))) (fun q3 => h0 (fun h => q3 (h e9).2.2))⟩) (fun q2 => h0 (fun h => q2 (h e9).2.1))⟩) (fun q1 => h0 (fun h => q1 (h e9).1))⟩
  · exact br_f (fun q => e9 ((ba_e9 (by omega)).mp q)) (nm_r (nI_1 k) (hJ (fun q => absurd q e9)))
theorem al_202 (hA : sc_A D B P I kk kb kp ki) {post J150 : Int32 → Prop} {t u k : Nat} (ht : t < 20) (hu : u < 20) (hk : k < 5) {x2 : Int32}
    (hJ : (¬ D t = 5 → xc (I (5 * t + k)) = xc (I (5 * u + k))) → (D t = 9 → ka (5 * t + k) = ka (5 * u + k) ∧ kh (5 * t + k) = kh (5 * u + k) ∧ kd (5 * t + k) = kd (5 * u + k)) → J150 (nI (k + 1))) (h0 : ¬ ((¬ D t = 5 → xc (I (5 * t + k)) = xc (I (5 * u + k))) ∧ (D t = 9 → ka (5 * t + k) = ka (5 * u + k) ∧ kh (5 * t + k) = kh (5 * u + k) ∧ kd (5 * t + k) = kd (5 * u + k))) → post 0) :
    (wX_alike_202 post J150 (nI t) x2 (nI k) (nI (5 * t + k)) (nI (5 * u + k)) xT xL xC xG xV xA xF xD xN xS xK xI kk kb kp kn ki ka kh kd kf xb nu rs vt vn va ve xo xt xp xl xd xm xz xu xe xc xf) := by
  have vt' : vp_in (nI t) 20 := vp_in_nI ht (by decide)
  have h9 := sc_k9 hA t
  have v4 : vp_in (nI (5 * t + k)) 100 := vp_in_nI (by omega) (by decide)
  have v5 : vp_in (nI (5 * u + k)) 100 := vp_in_nI (by omega) (by decide)
  have c4 : (nI (5 * t + k)).toNatClampNeg = 5 * t + k := nI_clamp (by omega)
  have c5 : (nI (5 * u + k)).toNatClampNeg = 5 * u + k := nI_clamp (by omega)
  have i1 := sc_i20 hA (5 * t + k)
  have i2 := sc_i20 hA (5 * u + k)
  unfold wX_alike_202
  rw [c4, c5, sc_i hA, sc_i hA, nI_clamp (n := I (5 * t + k)) (by omega), nI_clamp (n := I (5 * u + k)) (by omega)]
  refine ⟨vt', ?_⟩
  rw [bg_ck hA ht rfl]
  by_cases e5 : D t = 5
  · exact br_t (by rw [e5]; rfl) (al_241 hA ht hu hk (hJ (fun q => absurd e5 q)) (fun q => h0 (fun z => q z.2)))
  · exact br_f (fun q => e5 ((ba_e5 (by omega)).mp q)) ⟨v4, vp_in_nI i1 (by decide), v5, vp_in_nI i2 (by decide), br_c (fun q => al_241 hA ht hu hk (hJ (fun _ => q)) (fun y => h0 (fun z => y z.2))) (fun q => h0 (fun z => q (z.1 e5)))⟩
theorem al_150 (hA : sc_A D B P I kk kb kp ki) {post : Int32 → Prop} {t u : Nat} (ht : t < 20) (hu : u < 20) : ∀ m k n : Nat, k + m = P t → m < n →
    ((∀ j, k ≤ j → j < P t → al_k D I kn ka kh kd xc t u j) → post 1) → ((∃ j, k ≤ j ∧ j < P t ∧ ¬ al_k D I kn ka kh kd xc t u j) → post 0) → (wX_alike_150 post (nI t) (nI u) xT xL xC xG xV xA xF xD xN xS xK xI kk kb kp kn ki ka kh kd kf xb nu rs vt vn va ve xo xt xp xl xd xm xz xu xe xc xf n (nI k)) := by
  intro m
  have h9 := sc_k9 hA t
  have h5 := sc_p5 hA t
  have vt' : vp_in (nI t) 20 := vp_in_nI ht (by decide)
  induction m with
  | zero =>
    intro k n hk hn h1 h0
    obtain ⟨n, rfl⟩ : ∃ n', n = n' + 1 := ⟨n - 1, by omega⟩
    exact And.intro vt' (br_t (by rw [bg_cp hA ht]; exact nI_le (by omega) (by omega)) (h1 (fun j a b => by omega)))
  | succ m ih =>
    intro k n hk hn h1 h0
    obtain ⟨n, rfl⟩ : ∃ n', n = n' + 1 := ⟨n - 1, by omega⟩
    have v4 : vp_in (nI (5 * t + k)) 100 := vp_in_nI (by omega) (by decide)
    have v5 : vp_in (nI (5 * u + k)) 100 := vp_in_nI (by omega) (by decide)
    have c4 : (nI (5 * t + k)).toNatClampNeg = 5 * t + k := nI_clamp (by omega)
    have c5 : (nI (5 * u + k)).toNatClampNeg = 5 * u + k := nI_clamp (by omega)
    have J : (¬ D t = 8 → kn (5 * t + k) = kn (5 * u + k)) → (wX_alike_202 post (wX_alike_150 post (nI t) (nI u) xT xL xC xG xV xA xF xD xN xS xK xI kk kb kp kn ki ka kh kd kf xb nu rs vt vn va ve xo xt xp xl xd xm xz xu xe xc xf n) (nI t) (nI u) (nI k) (nI (5 * t + k)) (nI (5 * u + k)) xT xL xC xG xV xA xF xD xN xS xK xI kk kb kp kn ki ka kh kd kf xb nu rs vt vn va ve xo xt xp xl xd xm xz xu xe xc xf) := by
      intro e
      refine al_202 hA ht hu (by omega) (fun q1 q2 => ih (k + 1) n (by omega) (by omega) (fun h => h1 (fun j a b => ?_)) (fun h => h0 ?_)) (fun q => h0 ⟨k, Nat.le_refl _, by omega, fun z => q z.2⟩)
      · by_cases ej : j = k
        · rw [ej]; exact ⟨e, q1, q2⟩
        · exact h j (by omega) b
      · obtain ⟨j, a, b, c⟩ := h
        exact ⟨j, by omega, b, c⟩
    refine And.intro vt' (br_f (by rw [bg_cp hA ht]; exact nI_ge (by omega) (by omega)) (nm_r (e' := nI (5 * t + k)) (by rw [ba_5, nI_add]) (nm_r (e' := nI (5 * u + k)) (by rw [ba_5, nI_add]) ⟨vt', ?_⟩)))
    rw [bg_ck hA ht rfl]
    by_cases e8 : D t = 8
    · exact br_t (by rw [e8]; rfl) (J (fun q => absurd e8 q))
    · refine br_f (fun q => e8 ((ba_e8 (by omega)).mp q)) ⟨v4, v5, ?_⟩
      rw [c4, c5]
      exact br_c (fun q => J (fun _ => q)) (fun q => h0 ⟨k, Nat.le_refl _, by omega, fun z => q (z.1 e8)⟩)
theorem al_main (hA : sc_A D B P I kk kb kp ki) {post : Int32 → Prop} {t u : Nat} (ht : t < 20) (hu : u < 20) (h1 : al D B P I kn ka kh kd kf xc t u → post 1) (h0 : ¬ al D B P I kn ka kh kd kf xc t u → post 0) : (wpX_alike post (xT, xL, xC, xG, xV, xA, xF, xD, xN, xS, xK, xI, kk, kb, kp, kn, ki, ka, kh, kd, kf, xb, nu, rs, vt, vn, va, ve, xo, xt, xp, xl, xd, xm, xz, xu, xe, xc, xf) (nI t) (nI u)) := by
  have h9 := sc_k9 hA t
  have h9u := sc_k9 hA u
  have h5 := sc_p5 hA t
  have h5u := sc_p5 hA u
  have b1 := sc_b20 hA t
  have b2 := sc_b20 hA u
  have vt' : vp_in (nI t) 20 := vp_in_nI ht (by decide)
  have vu : vp_in (nI u) 20 := vp_in_nI hu (by decide)
  have ct : (nI t).toNatClampNeg = t := nI_clamp (by omega)
  have cu : (nI u).toNatClampNeg = u := nI_clamp (by omega)
  have L : D t = D u → P t = P u → xc t = xc u → ¬ D t = 6 → ¬ D t = 7 → (D t = 5 → kf t = kf u) → ∃ n, (wX_alike_150 post (nI t) (nI u) xT xL xC xG xV xA xF xD xN xS xK xI kk kb kp kn ki ka kh kd kf xb nu rs vt vn va ve xo xt xp xl xd xm xz xu xe xc xf n 0) := by
    intro e1 e2 e3 e6 e7 e5
    refine ⟨P t + 1, al_150 hA ht hu (P t) 0 _ (by omega) (by omega) (fun h => h1 ⟨⟨e1, e2, fun q => absurd q e6, fun q => absurd q e7, e5, fun _ _ k hk => h k (by omega) hk⟩, e3⟩) (fun h => h0 (fun z => ?_))⟩
    obtain ⟨j, a, b, c⟩ := h
    exact c (z.1.2.2.2.2.2 e6 e7 j b)
  simp (disch := omega) only [wpX_alike, vp_in_nI, nI_clamp, sc_k hA, sc_b hA, sc_p hA, nI_eq, ba_e6, ba_e7, ba_e5, true_and]
  refine br_c (fun q1 => br_c (fun q2 => br_c (fun q3 => br_c (fun e6 => br_c (fun q => ?_) (fun q => ?_)) (fun e6 => br_c (fun e7 => br_c (fun q => ?_) (fun q => ?_)) (fun e7 => br_c (fun e5 => br_c (fun q => ?_) (fun q => ?_)) (fun e5 => ?_)))) (fun q3 => ?_)) (fun q2 => ?_)) (fun q1 => ?_)
  · exact h1 ⟨⟨q1, q2, fun _ => q, fun e => by omega, fun e => by omega, fun e => absurd e6 e⟩, q3⟩
  · exact h0 (fun z => q (z.1.2.2.1 e6))
  · exact h1 ⟨⟨q1, q2, fun e => absurd e e6, fun _ => q, fun e => by omega, fun _ e => absurd e7 e⟩, q3⟩
  · exact h0 (fun z => q (z.1.2.2.2.1 e7))
  · exact L q1 q2 q3 e6 e7 (fun _ => q)
  · exact h0 (fun z => q (z.1.2.2.2.2.1 e5))
  · exact L q1 q2 q3 e6 e7 (fun e => absurd e e5)
  · exact h0 (fun z => q3 z.2)
  · exact h0 (fun z => q2 z.1.2.1)
  · exact h0 (fun z => q1 z.1.1)
end
end
section
section
variable {xT xL xC xG xV xA xF xD xN xS xK xI yW yV yD yR yA yF yO : Int32} {kk kb kp kn ki ka kh kd kf xb vt va ve xo xt xp xl xd xm xz xu xe xc xf kg yb yw yt ys yc yl yn yo ym yf tv tt tg yp yh : Nat → Int32} {nu rs vn yv : Nat → Int64}
variable {D B P I : Nat → Nat} {T : Nat}
theorem lk_monoT (hS : sc_T T D B P I kn kh kd kg) {R R' : Nat → Nat → Prop} {t u : Nat} (ht : t < T) (h : ∀ a b, a < T → b < T → R a b → R' a b) (hb : pa_lk D B P I kn ka kh kd kf R t u) : pa_lk D B P I kn ka kh kd kf R' t u := by
  obtain ⟨a1, a2, a3, a4, a5, a6⟩ := hb
  refine ⟨a1, a2, a3, fun e => h _ _ (sc_bT hS e).2 (sc_bT hS (by omega)).2 (a4 e), a5, fun e1 e2 k hk => ⟨(a6 e1 e2 k hk).1, fun e => h _ _ (sc_iT hS _ (by omega)) (sc_iT hS _ (by omega)) ((a6 e1 e2 k hk).2.1 e), (a6 e1 e2 k hk).2.2⟩⟩
theorem al_refl (t : Nat) : al D B P I kn ka kh kd kf xc t t := ⟨lk_refl (R := fun a b => xc a = xc b) (fun _ => rfl) t, rfl⟩
theorem al_symm {t u : Nat} (h : al D B P I kn ka kh kd kf xc t u) : al D B P I kn ka kh kd kf xc u t := ⟨lk_symm (fun _ _ e => e.symm) h.1, h.2.symm⟩
theorem al_trans {t u v : Nat} (h : al D B P I kn ka kh kd kf xc t u) (h' : al D B P I kn ka kh kd kf xc u v) : al D B P I kn ka kh kd kf xc t v := ⟨lk_trans (fun _ _ _ e e' => e.trans e') h.1 h'.1, h.2.trans h'.2⟩
theorem pr_80y {post : SX → Prop} {J30 J50 : _} {x1 : Int32} {t u : Nat} (ht : t < 20) (hu : u < t) (hb : vp_nar .byte (xf u) = xf u) (k : J50 (nI (t + 1)) xI kk kb kp kn ki ka kh kd kf xb nu rs vt vn va ve xo xt xp xl xd xm xz xu xe xc (upd xf t (xf u))) : (wX_part_80 post J30 J50 x1 (nI t) (nI u) xT xL xC xG xV xA xF xD xN xS xK xI kk kb kp kn ki ka kh kd kf xb nu rs vt vn va ve xo xt xp xl xd xm xz xu xe xc xf) := by
  have vt' : vp_in (nI t) 20 := vp_in_nI ht (by decide)
  refine br_f (nI_ge hu (by omega)) ⟨vp_in_nI (by omega) (by decide), And.intro vt' (nm_r (e' := upd xf t (xf u)) ?_ (br_f (fun e => by have := ba_inj e (by omega) (by omega); omega) (nm_r (nI_1 t) k)))⟩
  rw [nI_clamp (by omega), nI_clamp (by omega), hb]
theorem pr_80n {post : SX → Prop} {J30 J50 : _} {x1 : Int32} {t c : Nat} (ht : t < 20) (hc : c ≤ 20) (k : J50 (nI (t + 1)) (nI (c + 1)) kk kb kp kn ki ka kh kd kf xb nu rs vt vn va ve xo xt xp xl xd xm xz xu xe xc (upd xf t (nI c))) : (wX_part_80 post J30 J50 x1 (nI t) (nI t) xT xL xC xG xV xA xF xD xN xS xK (nI c) kk kb kp kn ki ka kh kd kf xb nu rs vt vn va ve xo xt xp xl xd xm xz xu xe xc xf) := by
  have vt' : vp_in (nI t) 20 := vp_in_nI ht (by decide)
  refine br_t (Int32.le_refl _) (And.intro vt' (nm_r (e' := upd xf t (nI c)) ?_ (br_t rfl (nm_r (nI_1 c) (nm_r (nI_1 t) k)))))
  rw [nI_clamp (by omega), pk_vb, ba_b (by omega)]
theorem pr_60 (hA : sc_A D B P I kk kb kp ki) {post : SX → Prop} {J30 J50 : _} {x1 : Int32} {t : Nat} (ht : t < 20) : ∀ m u n : Nat, u + m = t → m < n → (∀ v, v < u → ¬ al D B P I kn ka kh kd kf xc t v) →
    (∀ u', u' ≤ t → (∀ v, v < u' → ¬ al D B P I kn ka kh kd kf xc t v) → (u' < t → al D B P I kn ka kh kd kf xc t u') → (wX_part_80 post J30 J50 x1 (nI t) (nI u') xT xL xC xG xV xA xF xD xN xS xK xI kk kb kp kn ki ka kh kd kf xb nu rs vt vn va ve xo xt xp xl xd xm xz xu xe xc xf)) → (wX_part_60 post J30 J50 x1 (nI t) xT xL xC xG xV xA xF xD xN xS xK xI kk kb kp kn ki ka kh kd kf xb nu rs vt vn va ve xo xt xp xl xd xm xz xu xe xc xf n (nI u)) := by
  intro m
  induction m with
  | zero =>
    intro u n hu hn h K
    obtain ⟨n, rfl⟩ : ∃ n', n = n' + 1 := ⟨n - 1, by omega⟩
    exact br_t (nI_le (by omega) (by omega)) (K u (by omega) h (fun q => by omega))
  | succ m ih =>
    intro u n hu hn h K
    obtain ⟨n, rfl⟩ : ∃ n', n = n' + 1 := ⟨n - 1, by omega⟩
    refine br_f (nI_ge (by omega) (by omega)) (al_main hA ht (by omega) (fun q => br_f (by decide) (K u (by omega) h (fun _ => q))) (fun q => br_t rfl (nm_r (nI_1 u) (ih (u + 1) n (by omega) (by omega) (fun v hv => ?_) K))))
    by_cases e : v = u
    · rw [e]; exact q
    · exact h v (by omega)
def pr_I (AL : Nat → Nat → Prop) (q : Nat → Bool) (t c : Nat) (xf : Nat → Int32) : Prop := c = pa_ct q t ∧ (∀ s, s < t → ∃ n, n < c ∧ xf s = nI n) ∧ (∀ s v, s < t → v < t → (xf s = xf v ↔ AL s v))
theorem pr_50 (hA : sc_A D B P I kk kb kp ki) (hT : T ≤ 20) {post : SX → Prop} {J30 : _} {x1 : Int32} {q : Nat → Bool} (hq : ∀ s, q s = true ↔ ∀ v, v < s → ¬ al D B P I kn ka kh kd kf xc s v) : ∀ (m t n c : Nat) (xf : Nat → Int32), t + m = T → m < n → pr_I (al D B P I kn ka kh kd kf xc) q t c xf →
    (∀ (c' : Nat) (xf' : Nat → Int32), pr_I (al D B P I kn ka kh kd kf xc) q T c' xf' → ∃ n, (wX_part_128 post J30 x1 (nI T) xL xC xG xV xA xF xD xN xS xK (nI c') n 0 kk kb kp kn ki ka kh kd kf xb nu rs vt vn va ve xo xt xp xl xd xm xz xu xe xc xf')) → (wX_part_50 post J30 x1 (nI T) xL xC xG xV xA xF xD xN xS xK n (nI t) (nI c) kk kb kp kn ki ka kh kd kf xb nu rs vt vn va ve xo xt xp xl xd xm xz xu xe xc xf) := by
  intro m
  induction m with
  | zero =>
    intro t n c xf ht hn hI K
    obtain ⟨n, rfl⟩ : ∃ n', n = n' + 1 := ⟨n - 1, by omega⟩
    obtain rfl : t = T := by omega
    exact br_t (Int32.le_refl _) (K c xf hI)
  | succ m ih =>
    intro t n c xf ht hn hI K
    obtain ⟨n, rfl⟩ : ∃ n', n = n' + 1 := ⟨n - 1, by omega⟩
    obtain ⟨i1, i2, i3⟩ := hI
    have cn := ct_n (q := q) t
    refine br_f (nI_ge (by omega) (by omega)) (Exists.intro (t + 1) (pr_60 hA (by omega) t 0 _ (by omega) (by omega) (fun v hv => by omega) (fun u hu h1 h2 => ?_)))
    by_cases e : u = t
    · subst e
      refine pr_80n (by omega) (by omega) (ih (u + 1) n (c + 1) (upd xf u (nI c)) (by omega) (by omega) ⟨?_, ?_, ?_⟩ K)
      · show c + 1 = pa_ct q u + (if q u = true then 1 else 0)
        rw [if_pos ((hq u).mpr h1), i1]
      · intro s hs
        by_cases es : s = u
        · rw [es, ba_us]; exact ⟨c, by omega, rfl⟩
        · rw [ba_un es]
          obtain ⟨n, n1, n2⟩ := i2 s (by omega)
          exact ⟨n, by omega, n2⟩
      · have ne : ∀ s, s < u → ¬ xf s = nI c := fun s hs e => by
          obtain ⟨n, n1, n2⟩ := i2 s hs
          rw [n2] at e
          have := ba_inj e (by omega) (by omega)
          omega
        intro s v hs hv
        by_cases es : s = u
        · by_cases ev : v = u
          · rw [es, ev]; exact ⟨fun _ => al_refl u, fun _ => rfl⟩
          · rw [es, ba_us, ba_un ev]
            exact ⟨fun h => absurd h.symm (ne v (by omega)), fun h => absurd h (h1 v (by omega))⟩
        · by_cases ev : v = u
          · rw [ev, ba_us, ba_un es]
            exact ⟨fun h => absurd h (ne s (by omega)), fun h => absurd (al_symm h) (h1 s (by omega))⟩
          · rw [ba_un es, ba_un ev]
            exact i3 s v (by omega) (by omega)
    · have hut : u < t := by omega
      have au := h2 hut
      obtain ⟨nu', n1, n2⟩ := i2 u hut
      refine pr_80y (by omega) hut (by rw [n2]; exact ba_vb (by omega)) (ih (t + 1) n c (upd xf t (xf u)) (by omega) (by omega) ⟨?_, ?_, ?_⟩ K)
      · show c = pa_ct q t + (if q t = true then 1 else 0)
        rw [if_neg (fun h => (hq t).mp h u hut au), i1]
        rfl
      · intro s hs
        by_cases es : s = t
        · rw [es, ba_us]; exact ⟨nu', n1, n2⟩
        · rw [ba_un es]; exact i2 s (by omega)
      · intro s v hs hv
        by_cases es : s = t
        · by_cases ev : v = t
          · rw [es, ev]; exact ⟨fun _ => al_refl t, fun _ => rfl⟩
          · rw [es, ba_us, ba_un ev, i3 u v hut (by omega)]
            exact ⟨fun h => al_trans au h, fun h => al_trans (al_symm au) h⟩
        · by_cases ev : v = t
          · rw [ev, ba_us, ba_un es, i3 s u (by omega) hut]
            exact ⟨fun h => al_trans h (al_symm au), fun h => al_trans h au⟩
          · rw [ba_un es, ba_un ev]
            exact i3 s v (by omega) (by omega)
theorem pr_128 (hT : T ≤ 20) {post : SX → Prop} {J30 : _} {x1 : Int32} (hx : ∀ j, j < T → vp_nar .byte (xf j) = xf j) : ∀ (m i n : Nat) (xc : Nat → Int32), i + m = T → m < n → (∀ j, j < i → xc j = xf j) →
    (∀ xc : Nat → Int32, (∀ j, j < T → xc j = xf j) → J30 x1 xI kk kb kp kn ki ka kh kd kf xb nu rs vt vn va ve xo xt xp xl xd xm xz xu xe xc xf) → (wX_part_128 post J30 x1 (nI T) xL xC xG xV xA xF xD xN xS xK xI n (nI i) kk kb kp kn ki ka kh kd kf xb nu rs vt vn va ve xo xt xp xl xd xm xz xu xe xc xf) := by
  intro m
  induction m with
  | zero =>
    intro i n xc hi hn h K
    obtain ⟨n, rfl⟩ : ∃ n', n = n' + 1 := ⟨n - 1, by omega⟩
    obtain rfl : i = T := by omega
    exact br_t (Int32.le_refl _) (K xc h)
  | succ m ih =>
    intro i n xc hi hn h K
    obtain ⟨n, rfl⟩ : ∃ n', n = n' + 1 := ⟨n - 1, by omega⟩
    have vi : vp_in (nI i) 20 := vp_in_nI (by omega) (by decide)
    refine br_f (nI_ge (by omega) (by omega)) ⟨vi, vi, nm_r (e' := upd xc i (xf i)) (by rw [nI_clamp (by omega), hx i (by omega)]) (nm_r (nI_1 i) (ih (i + 1) n _ (by omega) (by omega) (fun j hj => ?_) K))⟩
    by_cases e : j = i
    · rw [e, ba_us]
    · rw [ba_un e]; exact h j (by omega)
/-- the partition is stable; it holds what is the same; its parts are counted -/
def pr_St (T : Nat) (D B P I : Nat → Nat) (kn ka kh kd kf xc : Nat → Int32) : Prop := ∀ t u, t < T → u < T → xc t = xc u → pa_lk D B P I kn ka kh kd kf (fun a b => xc a = xc b) t u
def pr_Gf (T : Nat) (D B P I : Nat → Nat) (kn ka kh kd kf xc : Nat → Int32) : Prop := ∀ t u, t < T → u < T → pa_S T D B P I kn ka kh kd kf t u → xc t = xc u
def pr_Ct (T : Nat) (xc : Nat → Int32) (c : Nat) : Prop := ∃ q : Nat → Bool, (∀ s, s < T → (q s = true ↔ ∀ v, v < s → ¬ xc s = xc v)) ∧ c = pa_ct q T
theorem pr_30 (hA : sc_A D B P I kk kb kp ki) (hS : sc_T T D B P I kn kh kd kg) {post : SX → Prop}
    (K : ∀ (c : Nat) (xc xf : Nat → Int32), pr_St T D B P I kn ka kh kd kf xc → pr_Gf T D B P I kn ka kh kd kf xc → pr_Ct T xc c → post (nI T, xL, xC, xG, xV, xA, xF, xD, xN, xS, xK, nI c, kk, kb, kp, kn, ki, ka, kh, kd, kf, xb, nu, rs, vt, vn, va, ve, xo, xt, xp, xl, xd, xm, xz, xu, xe, xc, xf)) :
    ∀ (m n c : Nat) (x1 : Int32) (xc xf : Nat → Int32), 21 - c ≤ m → m + 1 < n → c ≤ 20 → (c = 0 ∨ pr_Ct T xc c) → pr_Gf T D B P I kn ka kh kd kf xc → (x1 = nI c → pr_St T D B P I kn ka kh kd kf xc ∧ pr_Ct T xc c) → (wX_part_30 post (nI T) xL xC xG xV xA xF xD xN xS xK n x1 (nI c) kk kb kp kn ki ka kh kd kf xb nu rs vt vn va ve xo xt xp xl xd xm xz xu xe xc xf) := by
  have hT := sc_T20 hS
  intro m
  induction m with
  | zero => intro n c x1 xc xf h; omega
  | succ m ih =>
    intro n c x1 xc xf hm hn hc hd hg hs
    obtain ⟨n, rfl⟩ : ∃ n', n = n' + 1 := ⟨n - 1, by omega⟩
    by_cases e : x1 = nI c
    · exact br_t e (K c xc xf (hs e).1 hg (hs e).2)
    refine br_f e ?_
    obtain ⟨q, hq⟩ := ct_ex (fun s => ∀ v, v < s → ¬ al D B P I kn ka kh kd kf xc s v)
    refine Exists.intro (T + 1) (pr_50 hA hT hq T 0 _ 0 xf (by omega) (by omega) ⟨rfl, fun s hs => by omega, fun s v hs => by omega⟩ (fun c' xf' hI => ?_))
    obtain ⟨i1, i2, i3⟩ := hI
    have cn := ct_n (q := q) T
    refine Exists.intro (T + 1) (pr_128 hT (fun j hj => ?_) T 0 _ xc (by omega) (by omega) (fun j hj => by omega) (fun xc' hx => ?_))
    · obtain ⟨n, n1, n2⟩ := i2 j hj
      rw [n2]; exact ba_vb (by omega)
    have EQ : ∀ s v, s < T → v < T → (xc' s = xc' v ↔ al D B P I kn ka kh kd kf xc s v) := fun s v a b => by rw [hx s a, hx v b]; exact i3 s v a b
    have g' : pr_Gf T D B P I kn ka kh kd kf xc' := fun t u ht hu h => (EQ t u ht hu).mpr ⟨lk_monoT hS ht (fun a b ha hb hab => hg a b ha hb hab) (lk_un ht hu h), hg t u ht hu h⟩
    have d' : pr_Ct T xc' c' := ⟨q, fun s hs => by
      rw [hq s]
      exact ⟨fun h v hv e => h v hv ((EQ s v hs (by omega)).mp e), fun h v hv a => h v hv ((EQ s v hs (by omega)).mpr a)⟩, i1⟩
    have s' : nI c = nI c' → pr_St T D B P I kn ka kh kd kf xc' := by
      intro ec
      have ec' : c = c' := ba_inj ec (by omega) (by omega)
      have back : ∀ t u, t < T → u < T → xc t = xc u → al D B P I kn ka kh kd kf xc t u := by
        rcases hd with h0 | ⟨qe, h1, h2⟩
        · intro t u ht hu
          exfalso
          have : pa_ct (fun _ => false) T < pa_ct q T := ct_lt T (fun i _ e => absurd e (by decide)) ⟨0, by omega, (hq 0).mpr (fun v hv => by omega), by decide⟩
          omega
        · exact ct_same (qa := q) (qe := qe) (fun t ht => hq t) h1 (fun t u _ _ h => h.2) al_refl (fun t u => al_symm) (fun t u v => al_trans) (fun _ _ e => e.symm) (fun _ _ _ e e' => e.trans e') (by omega)
      intro t u ht hu h
      exact lk_monoT hS ht (fun a b ha hb hab => (EQ a b ha hb).mpr (back a b ha hb hab)) ((EQ t u ht hu).mp h).1
    by_cases ec : c = c'
    · obtain ⟨n, rfl⟩ : ∃ n', n = n' + 1 := ⟨n - 1, by omega⟩
      exact br_t (congrArg nI ec) (K c' xc' xf' (s' (congrArg nI ec)) g' d')
    · have lt : c < c' := by
        rcases hd with h0 | ⟨qe, h1, h2⟩
        · omega
        · have := ct_le (q := q) (q' := qe) T (fun i hi e => (hq i).mpr (fun v hv a => (h1 i hi).mp e v hv a.2))
          omega
      exact ih n c' (nI c) xc' xf' (by omega) (by omega) (by omega) (Or.inr d') g' (fun e => ⟨s' e, d'⟩)
theorem pr_2 (hT : T ≤ 20) {post : SX → Prop} : ∀ (m i n : Nat) (xc : Nat → Int32), i + m = T → m < n → (∀ j, j < i → xc j = 0) →
    (∀ xc : Nat → Int32, (∀ j, j < T → xc j = 0) → ∃ n, (wX_part_30 post (nI T) xL xC xG xV xA xF xD xN xS xK n (-1) 0 kk kb kp kn ki ka kh kd kf xb nu rs vt vn va ve xo xt xp xl xd xm xz xu xe xc xf)) → (wX_part_2 post (nI T) xL xC xG xV xA xF xD xN xS xK xI n (nI i) kk kb kp kn ki ka kh kd kf xb nu rs vt vn va ve xo xt xp xl xd xm xz xu xe xc xf) := by
  intro m
  induction m with
  | zero =>
    intro i n xc hi hn h K
    obtain ⟨n, rfl⟩ : ∃ n', n = n' + 1 := ⟨n - 1, by omega⟩
    obtain rfl : i = T := by omega
    exact br_t (Int32.le_refl _) (K xc h)
  | succ m ih =>
    intro i n xc hi hn h K
    obtain ⟨n, rfl⟩ : ∃ n', n = n' + 1 := ⟨n - 1, by omega⟩
    have vi : vp_in (nI i) 20 := vp_in_nI (by omega) (by decide)
    refine br_f (nI_ge (by omega) (by omega)) ⟨vi, nm_r (e' := upd xc i 0) (by rw [nI_clamp (by omega), ba_vb0]) (nm_r (nI_1 i) (ih (i + 1) n _ (by omega) (by omega) (fun j hj => ?_) K))⟩
    by_cases e : j = i
    · rw [e, ba_us]
    · rw [ba_un e]; exact h j (by omega)
theorem pr_main (hA : sc_A D B P I kk kb kp ki) (hS : sc_T T D B P I kn kh kd kg) {post : SX → Prop}
    (K : ∀ (c : Nat) (xc xf : Nat → Int32), (∀ t u, t < T → u < T → (xc t = xc u ↔ pa_S T D B P I kn ka kh kd kf t u)) → (∃ q : Nat → Bool, (∀ t, t < T → (q t = true ↔ ∀ u, u < t → ¬ pa_S T D B P I kn ka kh kd kf u t)) ∧ c = pa_ct q T) → post (nI T, xL, xC, xG, xV, xA, xF, xD, xN, xS, xK, nI c, kk, kb, kp, kn, ki, ka, kh, kd, kf, xb, nu, rs, vt, vn, va, ve, xo, xt, xp, xl, xd, xm, xz, xu, xe, xc, xf)) : (wpX_part post (nI T, xL, xC, xG, xV, xA, xF, xD, xN, xS, xK, xI, kk, kb, kp, kn, ki, ka, kh, kd, kf, xb, nu, rs, vt, vn, va, ve, xo, xt, xp, xl, xd, xm, xz, xu, xe, xc, xf)) := by
  have hT := sc_T20 hS
  refine Exists.intro (T + 1) (pr_2 hT T 0 _ xc (by omega) (by omega) (fun j hj => by omega) (fun xc h0 => Exists.intro 30 ?_))
  refine pr_30 hA hS ?_ 22 30 0 (-1) xc xf (by omega) (by omega) (by omega) (Or.inl rfl) (fun t u ht hu _ => by rw [h0 t ht, h0 u hu]) (fun e => absurd e (by decide))
  intro c xc' xf' s g d
  have EQ : ∀ t u, t < T → u < T → (xc' t = xc' u ↔ pa_S T D B P I kn ka kh kd kf t u) := fun t u ht hu => ⟨fun e => ⟨fun a b => a < T ∧ b < T ∧ xc' a = xc' b, fun a b ha hb hab => lk_monoT hS ha (fun x y hx hy e => ⟨hx, hy, e⟩) (s a b ha hb hab.2.2), ht, hu, e⟩, fun h => g t u ht hu h⟩
  refine K c xc' xf' EQ ?_
  obtain ⟨q, q1, q2⟩ := d
  refine ⟨q, fun t ht => ?_, q2⟩
  rw [q1 t ht]
  exact ⟨fun h u hu z => h u hu ((EQ t u ht (by omega)).mpr (sa_symm z)), fun h u hu z => h u hu (sa_symm ((EQ t u ht (by omega)).mp z))⟩
end
end
section
section
variable {xT xL xC xG xV xA xF xD xN xS xK xI yW yV yD yR yA yF yO : Int32} {kk kb kp kn ki ka kh kd kf xb vt va ve xo xt xp xl xd xm xz xu xe xc xf kg yb yw yt ys yc yl yn yo ym yf tv tt tg yp yh : Nat → Int32} {nu rs vn yv : Nat → Int64}
variable {D B P I : Nat → Nat} {T : Nat}
/-! X: types without a default -/
def cb_k (D I : Nat → Nat) (kh xe : Nat → Int32) (t k : Nat) : Prop := (D t = 9 ∧ (kh (5 * t + k) = 0 ∨ ¬ xe (I (5 * t + k)) = 0)) ∨ (D t = 8 ∧ k = 0 ∧ ¬ xe (I (5 * t)) = 0)
theorem cb_o1 {x : Int32} (h : x = 0 ∨ x = 1) : x ||| 1 = 1 := by rcases h with e | e <;> rw [e] <;> decide
theorem cb_o0 {x : Int32} (h : x = 0 ∨ x = 1) : x ||| 0 = x := by rcases h with e | e <;> rw [e] <;> decide
theorem cb_80 (hA : sc_A D B P I kk kb kp ki) {post : SX → Prop} {J59 J67 : _} {x1 : Int32} {t : Nat} (ht : t < 20)
    (K1 : (∃ j, j < P t ∧ cb_k D I kh xe t j) → (wX_crossBare_189 post J59 J67 x1 (nI t) 1 xT xL xC xG xV xA xF xD xN xS xK xI kk kb kp kn ki ka kh kd kf xb nu rs vt vn va ve xo xt xp xl xd xm xz xu xe xc xf)) (K0 : (∀ j, j < P t → ¬ cb_k D I kh xe t j) → (wX_crossBare_189 post J59 J67 x1 (nI t) 0 xT xL xC xG xV xA xF xD xN xS xK xI kk kb kp kn ki ka kh kd kf xb nu rs vt vn va ve xo xt xp xl xd xm xz xu xe xc xf)) :
    ∀ (m k n : Nat) (x3 : Int32), k + m = P t → m < n → ((x3 = 0 ∧ ∀ j, j < k → ¬ cb_k D I kh xe t j) ∨ (x3 = 1 ∧ ∃ j, j < P t ∧ cb_k D I kh xe t j)) → (wX_crossBare_80 post J59 J67 x1 (nI t) xT xL xC xG xV xA xF xD xN xS xK xI kk kb kp kn ki ka kh kd kf xb nu rs vt vn va ve xo xt xp xl xd xm xz xu xe xc xf n x3 (nI k)) := by
  intro m
  have h9 := sc_k9 hA t
  have h5 := sc_p5 hA t
  have vt' : vp_in (nI t) 20 := vp_in_nI ht (by decide)
  have ct : (nI t).toNatClampNeg = t := nI_clamp (by omega)
  have EN : ∀ x3 : Int32, ((x3 = 0 ∧ ∀ j, j < P t → ¬ cb_k D I kh xe t j) ∨ (x3 = 1 ∧ ∃ j, j < P t ∧ cb_k D I kh xe t j)) → (wX_crossBare_189 post J59 J67 x1 (nI t) x3 xT xL xC xG xV xA xF xD xN xS xK xI kk kb kp kn ki ka kh kd kf xb nu rs vt vn va ve xo xt xp xl xd xm xz xu xe xc xf) := by
    intro x3 h
    rcases h with ⟨e, h⟩ | ⟨e, h⟩
    · rw [e]; exact K0 h
    · rw [e]; exact K1 h
  induction m with
  | zero =>
    intro k n x3 hk hn hx
    obtain ⟨n, rfl⟩ : ∃ n', n = n' + 1 := ⟨n - 1, by omega⟩
    refine And.intro vt' (br_t (by rw [bg_cp hA ht]; exact nI_le (by omega) (by omega)) (EN x3 ?_))
    rcases hx with ⟨e, h⟩ | h
    · exact Or.inl ⟨e, fun j hj => h j (by omega)⟩
    · exact Or.inr h
  | succ m ih =>
    intro k n x3 hk hn hx
    obtain ⟨n, rfl⟩ : ∃ n', n = n' + 1 := ⟨n - 1, by omega⟩
    have x01 : x3 = 0 ∨ x3 = 1 := hx.imp (fun h => h.1) (fun h => h.1)
    refine And.intro vt' (br_f (by rw [bg_cp hA ht]; exact nI_ge (by omega) (by omega)) ⟨vt', ?_⟩)
    rw [bg_ck hA ht rfl]
    by_cases e8 : D t < 8
    · refine br_t ((ba_lt8 (by omega)).mpr e8) (EN x3 ?_)
      rcases hx with ⟨e, h⟩ | h
      · exact Or.inl ⟨e, fun j _ q => by rcases q with ⟨q, _⟩ | ⟨q, _⟩ <;> omega⟩
      · exact Or.inr h
    refine br_f (fun q => e8 ((ba_lt8 (by omega)).mp q)) ⟨vt', ?_⟩
    have Y : cb_k D I kh xe t k → (wX_crossBare_80 post J59 J67 x1 (nI t) xT xL xC xG xV xA xF xD xN xS xK xI kk kb kp kn ki ka kh kd kf xb nu rs vt vn va ve xo xt xp xl xd xm xz xu xe xc xf n 1 (nI (k + 1))) := fun q => ih (k + 1) n 1 (by omega) (by omega) (Or.inr ⟨rfl, k, by omega, q⟩)
    have N : ¬ cb_k D I kh xe t k → (wX_crossBare_80 post J59 J67 x1 (nI t) xT xL xC xG xV xA xF xD xN xS xK xI kk kb kp kn ki ka kh kd kf xb nu rs vt vn va ve xo xt xp xl xd xm xz xu xe xc xf n x3 (nI (k + 1))) := by
      intro q
      refine ih (k + 1) n x3 (by omega) (by omega) ?_
      rcases hx with ⟨e, h⟩ | h
      · refine Or.inl ⟨e, fun j hj => ?_⟩
        by_cases ej : j = k
        · rw [ej]; exact q
        · exact h j (by omega)
      · exact Or.inr h
    have i1 := sc_i20 hA (5 * t + k)
    have i2 := sc_i20 hA (5 * t)
    by_cases e9 : D t = 9
    · have v4 : vp_in (nI (5 * t + k)) 100 := vp_in_nI (by omega) (by decide)
      have c4 : (nI (5 * t + k)).toNatClampNeg = 5 * t + k := nI_clamp (by omega)
      refine br_t (by rw [e9]; rfl) ?_
      rw [ba_5, nI_add, c4, sc_i hA, nI_clamp (n := I (5 * t + k)) (by omega)]
      refine ⟨v4, br_c (fun q => nm_r (cb_o1 x01) (nm_r (nI_1 k) (Y (Or.inl ⟨e9, Or.inl q⟩)))) (fun q => ⟨v4, vp_in_nI i1 (by decide), br_c (fun q2 => nm_r (cb_o0 x01) (nm_r (nI_1 k) (N (fun z => ?_)))) (fun q2 => nm_r (cb_o1 x01) (nm_r (nI_1 k) (Y (Or.inl ⟨e9, Or.inr q2⟩))))⟩)⟩
      rcases z with ⟨_, z | z⟩ | ⟨z, _⟩
      · exact q z
      · exact z q2
      · omega
    · have e8' : D t = 8 := by omega
      refine br_f (fun q => e9 ((ba_e9 (by omega)).mp q)) ?_
      by_cases k0 : k = 0
      · refine br_t (by rw [k0]; rfl) ?_
        rw [ba_5, nI_clamp (n := 5 * t) (by omega), sc_i hA, nI_clamp (n := I (5 * t)) (by omega)]
        refine ⟨vp_in_nI (by omega) (by decide), vp_in_nI i2 (by decide), br_c (fun q2 => nm_r (cb_o0 x01) (nm_r (nI_1 k) (N (fun z => ?_)))) (fun q2 => nm_r (cb_o1 x01) (nm_r (nI_1 k) (Y (Or.inr ⟨e8', k0, q2⟩))))⟩
        rcases z with ⟨z, _⟩ | ⟨_, _, z⟩
        · omega
        · exact z q2
      · refine br_f (fun q => k0 ((ba_e0 (by omega)).mp q)) (nm_r (cb_o0 x01) (nm_r (nI_1 k) (N (fun z => ?_))))
        rcases z with ⟨z, _⟩ | ⟨_, z, _⟩ <;> omega
/-- sound, and the first ones are crossed out -/
def cb_S (T : Nat) (D P I : Nat → Nat) (kh xe : Nat → Int32) : Prop := (∀ t, t < T → ¬ xe t = 0 → pa_B T D P I kh t) ∧ (∀ t, t < T → D t = 5 ∨ D t = 8 → P t = 0 → ¬ xe t = 0)
theorem cb_67 (hA : sc_A D B P I kk kb kp ki) (hS : sc_T T D B P I kn kh kd kg) {post : SX → Prop} {J59 : _} {xe0 : Nat → Int32}
    (K : ∀ (x1 : Int32) (xe : Nat → Int32), cb_S T D P I kh xe → (∀ t, t < T → xe t = 0 → xe0 t = 0) → ((x1 = 0 ∧ (∀ t, t < T → (∃ j, j < P t ∧ cb_k D I kh xe t j) → ¬ xe t = 0)) ∨ (x1 = 1 ∧ ∃ t, t < T ∧ xe0 t = 0 ∧ ¬ xe t = 0)) → J59 x1 kk kb kp kn ki ka kh kd kf xb nu rs vt vn va ve xo xt xp xl xd xm xz xu xe xc xf) :
    ∀ (m i n : Nat) (x1 : Int32) (xe : Nat → Int32), i + m = T → m < n → cb_S T D P I kh xe → (∀ t, t < T → xe t = 0 → xe0 t = 0) → ((x1 = 0 ∧ xe = xe0 ∧ (∀ t, t < i → (∃ j, j < P t ∧ cb_k D I kh xe t j) → ¬ xe t = 0)) ∨ (x1 = 1 ∧ ∃ t, t < T ∧ xe0 t = 0 ∧ ¬ xe t = 0)) → (wX_crossBare_67 post J59 (nI T) xL xC xG xV xA xF xD xN xS xK xI n x1 (nI i) kk kb kp kn ki ka kh kd kf xb nu rs vt vn va ve xo xt xp xl xd xm xz xu xe xc xf) := by
  intro m
  have hT := sc_T20 hS
  induction m with
  | zero =>
    intro i n x1 xe hi hn hs hm hx
    obtain ⟨n, rfl⟩ : ∃ n', n = n' + 1 := ⟨n - 1, by omega⟩
    obtain rfl : i = T := by omega
    refine br_t (Int32.le_refl _) (K x1 xe hs hm (hx.imp (fun h => ⟨h.1, h.2.2⟩) id))
  | succ m ih =>
    intro i n x1 xe hi hn hs hm hx
    obtain ⟨n, rfl⟩ : ∃ n', n = n' + 1 := ⟨n - 1, by omega⟩
    have vi : vp_in (nI i) 20 := vp_in_nI (by omega) (by decide)
    have ci : (nI i).toNatClampNeg = i := nI_clamp (by omega)
    have NX : ((∃ j, j < P i ∧ cb_k D I kh xe i j) → ¬ xe i = 0) → (wX_crossBare_67 post J59 (nI T) xL xC xG xV xA xF xD xN xS xK xI n x1 (nI (i + 1)) kk kb kp kn ki ka kh kd kf xb nu rs vt vn va ve xo xt xp xl xd xm xz xu xe xc xf) := by
      intro h
      refine ih (i + 1) n x1 xe (by omega) (by omega) hs hm (hx.imp (fun z => ⟨z.1, z.2.1, fun t ht => ?_⟩) id)
      by_cases e : t = i
      · rw [e]; exact h
      · exact z.2.2 t (by omega)
    refine br_f (nI_ge (by omega) (by omega)) (Exists.intro (P i + 1) (cb_80 hA (by omega) (fun h => ?_) (fun h => ?_) (P i) 0 _ 0 (by omega) (by omega) (Or.inl ⟨rfl, fun j hj => by omega⟩)))
    · refine br_f (by decide) ⟨vi, ?_⟩
      rw [ci]
      refine br_c (fun q => ⟨vi, nm_r (e' := upd xe i 1) (by rw [ba_vz1]) (nm_r (nI_1 i) (ih (i + 1) n 1 (upd xe i 1) (by omega) (by omega) ⟨fun t ht z => ?_, fun t ht a b => ?_⟩ (fun t ht z => ?_) (Or.inr ⟨rfl, i, by omega, hm i (by omega) q, by rw [ba_us]; decide⟩)))⟩) (fun q => nm_r (nI_1 i) (NX (fun _ => q)))
      · by_cases e : t = i
        · rw [e]
          refine pb_cl (by omega) ?_
          obtain ⟨j, j1, j2⟩ := h
          rcases j2 with ⟨d9, j2⟩ | ⟨d8, j0, j2⟩
          · exact Or.inr (Or.inr ⟨d9, j, j1, j2.imp id (fun y => hs.1 _ (sc_iT hS _ (by omega)) y)⟩)
          · exact Or.inr (Or.inl ⟨d8, Or.inr (hs.1 _ (sc_iT hS _ (by omega)) j2)⟩)
        · rw [ba_un e] at z
          exact hs.1 t ht z
      · by_cases e : t = i
        · rw [e, ba_us]; decide
        · rw [ba_un e]; exact hs.2 t ht a b
      · by_cases e : t = i
        · rw [e, ba_us] at z; exact absurd z (by decide)
        · rw [ba_un e] at z; exact hm t ht z
    · refine br_t rfl (nm_r (nI_1 i) (NX (fun z => ?_)))
      obtain ⟨j, j1, j2⟩ := z
      exact absurd j2 (h j j1)
theorem cb_59 (hA : sc_A D B P I kk kb kp ki) (hS : sc_T T D B P I kn kh kd kg) {post : SX → Prop} (K : ∀ xe : Nat → Int32, (∀ t, t < T → (¬ xe t = 0 ↔ pa_B T D P I kh t)) → post (nI T, xL, xC, xG, xV, xA, xF, xD, xN, xS, xK, xI, kk, kb, kp, kn, ki, ka, kh, kd, kf, xb, nu, rs, vt, vn, va, ve, xo, xt, xp, xl, xd, xm, xz, xu, xe, xc, xf)) :
    ∀ (m n : Nat) (xe : Nat → Int32), ct_z xe 0 T < m → m + 1 < n → cb_S T D P I kh xe → (wX_crossBare_59 post (nI T) xL xC xG xV xA xF xD xN xS xK xI n 1 kk kb kp kn ki ka kh kd kf xb nu rs vt vn va ve xo xt xp xl xd xm xz xu xe xc xf) := by
  intro m
  have hT := sc_T20 hS
  induction m with
  | zero => intro n xe h; omega
  | succ m ih =>
    intro n xe0 hm hn hs
    obtain ⟨n, rfl⟩ : ∃ n', n = n' + 1 := ⟨n - 1, by omega⟩
    refine br_f (by decide) (Exists.intro (T + 1) (cb_67 hA hS (xe0 := xe0) (fun x1 xe hs1 hm1 hx1 => ?_) T 0 _ 0 xe0 (by omega) (by omega) hs (fun t _ z => z) (Or.inl ⟨rfl, rfl, fun t ht => by omega⟩)))
    rcases hx1 with ⟨e, cl⟩ | ⟨e, t, t1, t2, t3⟩
    · rw [e]
      obtain ⟨n, rfl⟩ : ∃ n', n = n' + 1 := ⟨n - 1, by omega⟩
      refine br_t rfl (K xe (fun t ht => ⟨hs1.1 t ht, fun h => ?_⟩))
      have cls : ∀ j, j < T → pa_bb D P I kh (fun j => ¬ xe j = 0) j → ¬ xe j = 0 := by
        intro j hj hb
        rcases hb with ⟨a, b⟩ | ⟨a, b⟩ | ⟨a, k, b, c⟩
        · exact hs1.2 j hj (Or.inl a) b
        · by_cases p0 : P j = 0
          · exact hs1.2 j hj (Or.inr a) p0
          · exact cl j hj ⟨0, by omega, Or.inr ⟨a, rfl, b.resolve_left p0⟩⟩
        · exact cl j hj ⟨k, b, Or.inl ⟨a, c⟩⟩
      exact h (fun j => ¬ xe j = 0) cls
    · rw [e]
      exact ih n xe (by have := ct_zlt (a := xe0) (a' := xe) (v := 0) (n := T) hm1 ⟨t, t1, t2, t3⟩; omega) (by omega) hs1
theorem cb_2 (hA : sc_A D B P I kk kb kp ki) (hT : T ≤ 20) {post : SX → Prop} : ∀ (m i n : Nat) (xe : Nat → Int32), i + m = T → m < n → (∀ t, t < i → (¬ xe t = 0 ↔ (D t = 5 ∨ D t = 8) ∧ P t = 0)) →
    (∀ xe : Nat → Int32, (∀ t, t < T → (¬ xe t = 0 ↔ (D t = 5 ∨ D t = 8) ∧ P t = 0)) → ∃ n, (wX_crossBare_59 post (nI T) xL xC xG xV xA xF xD xN xS xK xI n 1 kk kb kp kn ki ka kh kd kf xb nu rs vt vn va ve xo xt xp xl xd xm xz xu xe xc xf)) → (wX_crossBare_2 post (nI T) xL xC xG xV xA xF xD xN xS xK xI n (nI i) kk kb kp kn ki ka kh kd kf xb nu rs vt vn va ve xo xt xp xl xd xm xz xu xe xc xf) := by
  intro m
  induction m with
  | zero =>
    intro i n xe hi hn h K
    obtain ⟨n, rfl⟩ : ∃ n', n = n' + 1 := ⟨n - 1, by omega⟩
    obtain rfl : i = T := by omega
    exact br_t (Int32.le_refl _) (K xe h)
  | succ m ih =>
    intro i n xe hi hn h K
    obtain ⟨n, rfl⟩ : ∃ n', n = n' + 1 := ⟨n - 1, by omega⟩
    have vi : vp_in (nI i) 20 := vp_in_nI (by omega) (by decide)
    have ci : (nI i).toNatClampNeg = i := nI_clamp (by omega)
    have h9 := sc_k9 hA i
    have h5 := sc_p5 hA i
    have ST : ∀ x : Int32, (¬ x = 0 ↔ (D i = 5 ∨ D i = 8) ∧ P i = 0) → (wX_crossBare_2 post (nI T) xL xC xG xV xA xF xD xN xS xK xI n (nI (i + 1)) kk kb kp kn ki ka kh kd kf xb nu rs vt vn va ve xo xt xp xl xd xm xz xu (upd xe i x) xc xf) := by
      intro x hx
      refine ih (i + 1) n (upd xe i x) (by omega) (by omega) (fun t ht => ?_) K
      by_cases e : t = i
      · rw [e, ba_us]; exact hx
      · rw [ba_un e]; exact h t (by omega)
    have J : D i = 5 ∨ D i = 8 → (wX_crossBare_36 post (wX_crossBare_2 post (nI T) xL xC xG xV xA xF xD xN xS xK xI n) (nI i) (nI i) (nI T) xL xC xG xV xA xF xD xN xS xK xI kk kb kp kn ki ka kh kd kf xb nu rs vt vn va ve xo xt xp xl xd xm xz xu xe xc xf) := by
      intro e
      refine And.intro vi ?_
      rw [ci, sc_p hA]
      by_cases p0 : P i = 0
      · exact br_t (by rw [p0]; rfl) ⟨vi, nm_r (e' := upd xe i 1) (by rw [ba_vz1]) (nm_r (nI_1 i) (ST 1 ⟨fun _ => ⟨e, p0⟩, fun _ => by decide⟩))⟩
      · exact br_f (fun q => p0 ((ba_e0 (by omega)).mp q)) ⟨vi, nm_r (e' := upd xe i 0) (by rw [ba_vz0]) (nm_r (nI_1 i) (ST 0 ⟨fun q => absurd rfl q, fun q => absurd q.2 p0⟩))⟩
    refine br_f (nI_ge (by omega) (by omega)) ⟨vi, ?_⟩
    rw [bg_ck hA (by omega) rfl]
    by_cases e5 : D i = 5
    · exact br_t (by rw [e5]; rfl) (J (Or.inl e5))
    · refine br_f (fun q => e5 ((ba_e5 (by omega)).mp q)) ⟨vi, ?_⟩
      by_cases e8 : D i = 8
      · exact br_t (by rw [e8]; rfl) (J (Or.inr e8))
      · exact br_f (fun q => e8 ((ba_e8 (by omega)).mp q)) ⟨vi, nm_r (e' := upd xe i 0) (by rw [ci, ba_vz0]) (nm_r (nI_1 i) (ST 0 ⟨fun q => absurd rfl q, fun q => by omega⟩))⟩
theorem cb_main (hA : sc_A D B P I kk kb kp ki) (hS : sc_T T D B P I kn kh kd kg) {post : SX → Prop} (K : ∀ xe : Nat → Int32, (∀ t, t < T → (¬ xe t = 0 ↔ pa_B T D P I kh t)) → post (nI T, xL, xC, xG, xV, xA, xF, xD, xN, xS, xK, xI, kk, kb, kp, kn, ki, ka, kh, kd, kf, xb, nu, rs, vt, vn, va, ve, xo, xt, xp, xl, xd, xm, xz, xu, xe, xc, xf)) : (wpX_crossBare post (nI T, xL, xC, xG, xV, xA, xF, xD, xN, xS, xK, xI, kk, kb, kp, kn, ki, ka, kh, kd, kf, xb, nu, rs, vt, vn, va, ve, xo, xt, xp, xl, xd, xm, xz, xu, xe, xc, xf)) := by
  have hT := sc_T20 hS
  refine Exists.intro (T + 1) (cb_2 hA hT T 0 _ xe (by omega) (by omega) (fun j hj => by omega) (fun xe h => Exists.intro 30 (cb_59 hA hS K 25 30 xe ?_ (by omega) ⟨fun t ht z => ?_, fun t ht a b => (h t ht).mpr ⟨a, b⟩⟩)))
  · have := ct_n (q := fun i => decide (xe i = 0)) T
    show pa_ct (fun i => decide (xe i = 0)) T < 25
    omega
  · obtain ⟨a, b⟩ := (h t ht).mp z
    refine pb_cl ht ?_
    rcases a with a | a
    · exact Or.inl ⟨a, b⟩
    · exact Or.inr (Or.inl ⟨a, Or.inl b⟩)
end
end
section
section
variable {xT xL xC xG xV xA xF xD xN xS xK xI yW yV yD yR yA yF yO : Int32} {kk kb kp kn ki ka kh kd kf xb vt va ve xo xt xp xl xd xm xz xu xe xc xf kg yb yw yt ys yc yl yn yo ym yf tv tt tg yp yh : Nat → Int32} {nu rs vn yv : Nat → Int64}
variable {D B P I : Nat → Nat} {T : Nat}
/-! X: pairs that are not safe -/
/-- monotone, within the types that are there -/
theorem cp_mono (hS : sc_T T D B P I kn kh kd kg) {E : Nat → Prop} {S S' : Nat → Nat → Prop} {w r : Nat} (hw : w < T) (hr : r < T) (h : ∀ a b, a < T → b < T → S a b → S' a b) (hb : pa_pb D B P I kn ka kh kf E S w r) : pa_pb D B P I kn ka kh kf E S' w r := by
  have iT : ∀ j, I j < T := fun j => sc_iT hS j (by omega)
  rcases hb with ⟨a, k, b, c⟩ | ⟨a, b, c⟩ | ⟨a, b, c⟩
  · exact Or.inl ⟨a, k, b, h _ _ (iT _) hr c⟩
  · refine Or.inr (Or.inl ⟨a, b, c.imp id ?_⟩)
    rintro ⟨f, f1, f2, f3⟩
    exact ⟨f, f1, f2, h _ _ hw (iT _) f3⟩
  · refine Or.inr (Or.inr ⟨a, b, c.imp id ?_⟩)
    rintro ⟨c1, c2⟩
    refine ⟨c1, ?_⟩
    rcases c2 with ⟨d1, d2⟩ | d | ⟨d1, k, d2, d3⟩
    · have su := sc_su_t.mp c1
      exact Or.inl ⟨d1, h _ _ (sc_bT hS (by omega)).2 (sc_bT hS d1).2 d2⟩
    · exact Or.inr (Or.inl d)
    · refine Or.inr (Or.inr ⟨d1, k, d2, d3.imp id ?_⟩)
      rintro ⟨f, f1, f2, f3⟩
      exact ⟨f, f1, f2, h _ _ (iT _) (iT _) f3⟩
theorem fa_13 (hA : sc_A D B P I kk kb kp ki) {post : Int32 → SX → Prop} {w r : Nat} (hw : w < 20) (hr : r < 20) : ∀ (m k n : Nat), k + m = P w → m < n →
    ((∃ j, k ≤ j ∧ j < P w ∧ ¬ xu (20 * I (5 * w + j) + r) = 0) → post 1 (xT, xL, xC, xG, xV, xA, xF, xD, xN, xS, xK, xI, kk, kb, kp, kn, ki, ka, kh, kd, kf, xb, nu, rs, vt, vn, va, ve, xo, xt, xp, xl, xd, xm, xz, xu, xe, xc, xf)) → ((∀ j, k ≤ j → j < P w → ¬ ¬ xu (20 * I (5 * w + j) + r) = 0) → post 0 (xT, xL, xC, xG, xV, xA, xF, xD, xN, xS, xK, xI, kk, kb, kp, kn, ki, ka, kh, kd, kf, xb, nu, rs, vt, vn, va, ve, xo, xt, xp, xl, xd, xm, xz, xu, xe, xc, xf)) → (wX_fails_13 post (nI w) (nI r) xT xL xC xG xV xA xF xD xN xS xK xI kk kb kp kn ki ka kh kd kf xb nu rs vt vn va ve xo xt xp xl xd xm xz xu xe xc xf n (nI k)) := by
  intro m
  have h5 := sc_p5 hA w
  have vw : vp_in (nI w) 20 := vp_in_nI hw (by decide)
  induction m with
  | zero =>
    intro k n hk hn h1 h0
    obtain ⟨n, rfl⟩ : ∃ n', n = n' + 1 := ⟨n - 1, by omega⟩
    exact And.intro vw (br_t (by rw [bg_cp hA hw]; exact nI_le (by omega) (by omega)) (h0 (fun j a b => by omega)))
  | succ m ih =>
    intro k n hk hn h1 h0
    obtain ⟨n, rfl⟩ : ∃ n', n = n' + 1 := ⟨n - 1, by omega⟩
    have i1 := sc_i20 hA (5 * w + k)
    refine And.intro vw (br_f (by rw [bg_cp hA hw]; exact nI_ge (by omega) (by omega)) ?_)
    rw [ba_5, nI_add, nI_clamp (n := 5 * w + k) (by omega), sc_i hA, ba_20, nI_add, nI_clamp (n := 20 * I (5 * w + k) + r) (by omega)]
    refine ⟨vp_in_nI (by omega) (by decide), vp_in_nI (by omega) (by decide), br_c (fun q => nm_r (nI_1 k) (ih (k + 1) n (by omega) (by omega) (fun h => h1 ?_) (fun h => h0 (fun j a b => ?_)))) (fun q => h1 ⟨k, Nat.le_refl _, by omega, q⟩)⟩
    · obtain ⟨j, a, b, c⟩ := h
      exact ⟨j, by omega, b, c⟩
    · by_cases e : j = k
      · rw [e]; exact fun z => z q
      · exact h j (by omega) b
theorem fa_a1 {x : Int32} (h : x = 0 ∨ x = 1) : x &&& 1 = x := by rcases h with e | e <;> rw [e] <;> decide
theorem fa_a0 {x : Int32} (h : x = 0 ∨ x = 1) : x &&& 0 = 0 := by rcases h with e | e <;> rw [e] <;> decide
theorem fa_166 (hA : sc_A D B P I kk kb kp ki) {post : Int32 → SX → Prop} {w r : Nat} (hw : w < 20) (hr : r < 20)
    (h1 : (kf r < 0 ∧ ∃ j, j < P w ∧ sc_find P kn r (kn (5 * w + j)) = -1) → post 1 (xT, xL, xC, xG, xV, xA, xF, xD, xN, xS, xK, xI, kk, kb, kp, kn, ki, ka, kh, kd, kf, xb, nu, rs, vt, vn, va, ve, xo, xt, xp, xl, xd, xm, xz, xu, xe, xc, xf)) (h0 : ¬ (kf r < 0 ∧ ∃ j, j < P w ∧ sc_find P kn r (kn (5 * w + j)) = -1) → post 0 (xT, xL, xC, xG, xV, xA, xF, xD, xN, xS, xK, xI, kk, kb, kp, kn, ki, ka, kh, kd, kf, xb, nu, rs, vt, vn, va, ve, xo, xt, xp, xl, xd, xm, xz, xu, xe, xc, xf)) : ∀ (m k n : Nat) (x3 : Int32), k + m = P w → m < n →
    ((x3 = 1 ∧ ∀ j, j < k → ¬ sc_find P kn r (kn (5 * w + j)) = -1) ∨ (x3 = 0 ∧ ∃ j, j < P w ∧ sc_find P kn r (kn (5 * w + j)) = -1)) → (wX_fails_166 post (nI w) (nI r) xT xL xC xG xV xA xF xD xN xS xK xI kk kb kp kn ki ka kh kd kf xb nu rs vt vn va ve xo xt xp xl xd xm xz xu xe xc xf n x3 (nI k)) := by
  intro m
  have h5 := sc_p5 hA w
  have h5r := sc_p5 hA r
  have vw : vp_in (nI w) 20 := vp_in_nI hw (by decide)
  have vr : vp_in (nI r) 20 := vp_in_nI hr (by decide)
  have cr : (nI r).toNatClampNeg = r := nI_clamp (by omega)
  induction m with
  | zero =>
    intro k n x3 hk hn hx
    obtain ⟨n, rfl⟩ : ∃ n', n = n' + 1 := ⟨n - 1, by omega⟩
    refine And.intro vw (br_t (by rw [bg_cp hA hw]; exact nI_le (by omega) (by omega)) ?_)
    rcases hx with ⟨e, h⟩ | ⟨e, j, j1, j2⟩
    · refine br_f (by rw [e]; decide) (h0 (fun z => ?_))
      obtain ⟨_, j, j1, j2⟩ := z
      exact h j (by omega) j2
    · refine br_t e ⟨vr, ?_⟩
      rw [cr]
      exact br_c (fun q => h0 (fun z => Int32.not_lt.mpr q z.1)) (fun q => h1 ⟨Int32.not_le.mp q, j, j1, j2⟩)
  | succ m ih =>
    intro k n x3 hk hn hx
    obtain ⟨n, rfl⟩ : ∃ n', n = n' + 1 := ⟨n - 1, by omega⟩
    have x01 : x3 = 0 ∨ x3 = 1 := hx.elim (fun h => Or.inr h.1) (fun h => Or.inl h.1)
    refine And.intro vw (br_f (by rw [bg_cp hA hw]; exact nI_ge (by omega) (by omega)) ?_)
    rw [ba_5, nI_add, nI_clamp (n := 5 * w + k) (by omega)]
    refine ⟨vp_in_nI (by omega) (by decide), xn_named hA hr ?_⟩
    rcases sc_find_r (P := P) (kn := kn) (t := r) (kn (5 * w + k)) h5r with ⟨hf, _⟩ | ⟨f, hf1, hf, _⟩
    · rw [hf]
      exact br_t ba_m1lt (nm_r (fa_a0 x01) (nm_r (nI_1 k) (ih (k + 1) n 0 (by omega) (by omega) (Or.inr ⟨rfl, k, by omega, hf⟩))))
    · rw [hf]
      refine br_f (nI_pos (by omega)) (nm_r (fa_a1 x01) (nm_r (nI_1 k) (ih (k + 1) n x3 (by omega) (by omega) ?_)))
      rcases hx with ⟨e, h⟩ | h
      · refine Or.inl ⟨e, fun j hj => ?_⟩
        by_cases ej : j = k
        · rw [ej, hf]; exact fun z => (ba_em1 (by omega)).mp z
        · exact h j (by omega)
      · exact Or.inr h
/-- a field of a pair fails -/
def fa_k (T : Nat) (D P I : Nat → Nat) (kn ka kh xu : Nat → Int32) (w r k : Nat) : Prop :=
  (sc_pl P kn ka w r k = -1 ∧ (kh (5 * r + k) = 0 ∨ pa_B T D P I kh (I (5 * r + k)))) ∨ ∃ f, f < P w ∧ sc_pl P kn ka w r k = nI f ∧ ¬ xu (20 * I (5 * w + f) + I (5 * r + k)) = 0
theorem fa_231 (hA : sc_A D B P I kk kb kp ki) (hS : sc_T T D B P I kn kh kd kg) (he : ∀ t, t < T → (¬ xe t = 0 ↔ pa_B T D P I kh t)) {post : Int32 → SX → Prop} {w r : Nat} (hw : w < T) (hr : r < T) (h9 : D r = 9) : ∀ (m k n : Nat) (xz : Nat → Int32), pl_ok T P kn ka xz → k + m = P r → m < n →
    (∀ xz : Nat → Int32, pl_ok T P kn ka xz → (∃ j, k ≤ j ∧ j < P r ∧ fa_k T D P I kn ka kh xu w r j) → post 1 (xT, xL, xC, xG, xV, xA, xF, xD, xN, xS, xK, xI, kk, kb, kp, kn, ki, ka, kh, kd, kf, xb, nu, rs, vt, vn, va, ve, xo, xt, xp, xl, xd, xm, xz, xu, xe, xc, xf)) → (∀ xz : Nat → Int32, pl_ok T P kn ka xz → (∀ j, k ≤ j → j < P r → ¬ fa_k T D P I kn ka kh xu w r j) → post 0 (xT, xL, xC, xG, xV, xA, xF, xD, xN, xS, xK, xI, kk, kb, kp, kn, ki, ka, kh, kd, kf, xb, nu, rs, vt, vn, va, ve, xo, xt, xp, xl, xd, xm, xz, xu, xe, xc, xf)) → (wX_fails_231 post (nI w) (nI r) n (nI k) xT xL xC xG xV xA xF xD xN xS xK xI kk kb kp kn ki ka kh kd kf xb nu rs vt vn va ve xo xt xp xl xd xm xz xu xe xc xf) := by
  intro m
  have hT := sc_T20 hS
  have h5 := sc_p5 hA r
  have h5w := sc_p5 hA w
  have r20 : r < 20 := by omega
  have vr : vp_in (nI r) 20 := vp_in_nI r20 (by decide)
  induction m with
  | zero =>
    intro k n xz hz hk hn h1 h0
    obtain ⟨n, rfl⟩ : ∃ n', n = n' + 1 := ⟨n - 1, by omega⟩
    exact And.intro vr (br_t (by rw [bg_cp hA r20]; exact nI_le (by omega) (by omega)) (h0 xz hz (fun j a b => by omega)))
  | succ m ih =>
    intro k n xz hz hk hn h1 h0
    obtain ⟨n, rfl⟩ : ∃ n', n = n' + 1 := ⟨n - 1, by omega⟩
    obtain ⟨xz', hz', hpl⟩ := xp_planned (xT := xT) (xL := xL) (xC := xC) (xG := xG) (xV := xV) (xA := xA) (xF := xF) (xD := xD) (xN := xN) (xS := xS) (xK := xK) (xI := xI) (kh := kh) (kd := kd) (kf := kf) (xb := xb) (nu := nu) (rs := rs) (vt := vt) (vn := vn) (va := va) (ve := ve) (xo := xo) (xt := xt) (xp := xp) (xl := xl) (xd := xd) (xm := xm) (xu := xu) (xe := xe) (xc := xc) (xf := xf) hA hT hz hw hr (k := k) (by omega)
    have i1 := sc_iT hS (5 * r + k) (by omega)
    have v5 : vp_in (nI (5 * r + k)) 100 := vp_in_nI (by omega) (by decide)
    have NX : ¬ fa_k T D P I kn ka kh xu w r k → (wX_fails_231 post (nI w) (nI r) n (nI (k + 1)) xT xL xC xG xV xA xF xD xN xS xK xI kk kb kp kn ki ka kh kd kf xb nu rs vt vn va ve xo xt xp xl xd xm xz' xu xe xc xf) := by
      intro q
      refine ih (k + 1) n xz' hz' (by omega) (by omega) (fun xz2 hz2 h => h1 xz2 hz2 ?_) (fun xz2 hz2 h => h0 xz2 hz2 (fun j a b => ?_))
      · obtain ⟨j, a, b, c⟩ := h
        exact ⟨j, by omega, b, c⟩
      · by_cases e : j = k
        · rw [e]; exact q
        · exact h j (by omega) b
    refine And.intro vr (br_f (by rw [bg_cp hA r20]; exact nI_ge (by omega) (by omega)) ⟨vr, br_t (by rw [bg_ck hA r20 h9]; rfl) (hpl _ ?_)⟩)
    show vp_in ((5 * nI r) + nI k) 100 ∧ _
    rw [ba_5, nI_add]
    refine ⟨v5, nm_r (e' := nI (I (5 * r + k))) (by rw [nI_clamp (by omega), sc_i hA]) ?_⟩
    rcases sc_pl_r (P := P) (kn := kn) (ka := ka) (w := w) r k h5w with e | ⟨f, f1, f2⟩
    · rw [e]
      refine br_f ba_m1le ⟨v5, ?_⟩
      rw [nI_clamp (n := 5 * r + k) (by omega), nI_clamp (n := I (5 * r + k)) (by omega)]
      refine br_c (fun q => h1 xz' hz' ⟨k, Nat.le_refl _, by omega, Or.inl ⟨e, Or.inl q⟩⟩) (fun q => ⟨vp_in_nI (by omega) (by decide), br_c (fun q2 => nm_r (nI_1 k) (NX (fun z => ?_))) (fun q2 => h1 xz' hz' ⟨k, Nat.le_refl _, by omega, Or.inl ⟨e, Or.inr ((he _ i1).mp q2)⟩⟩)⟩)
      rcases z with ⟨_, z | z⟩ | ⟨f, f1, f2, _⟩
      · exact q z
      · exact (he _ i1).mpr z q2
      · rw [e] at f2; exact (ba_em1 (by omega)).mp f2.symm
    · rw [f2]
      have i2 := sc_i20 hA (5 * w + f)
      refine br_t (nI_pos' (by omega)) ?_
      rw [ba_5, nI_add, nI_clamp (n := 5 * w + f) (by omega), sc_i hA, ba_20, nI_add, nI_clamp (n := 20 * I (5 * w + f) + I (5 * r + k)) (by omega)]
      refine ⟨vp_in_nI (by omega) (by decide), vp_in_nI (by omega) (by decide), br_c (fun q => nm_r (nI_1 k) (NX (fun z => ?_))) (fun q => h1 xz' hz' ⟨k, Nat.le_refl _, by omega, Or.inr ⟨f, f1, f2, q⟩⟩)⟩
      rcases z with ⟨e, _⟩ | ⟨g, g1, g2, g3⟩
      · rw [f2] at e; exact (ba_em1 (by omega)).mp e
      · rw [f2] at g2
        have : f = g := ba_inj g2 (by omega) (by omega)
        rw [← this] at g3
        exact g3 q
theorem fa_main (hA : sc_A D B P I kk kb kp ki) (hS : sc_T T D B P I kn kh kd kg) (he : ∀ t, t < T → (¬ xe t = 0 ↔ pa_B T D P I kh t)) (hu : ∀ k, k < 400 → xu k = 0 ∨ xu k = 1) (hz : pl_ok T P kn ka xz) {post : Int32 → SX → Prop} {w r : Nat} (hw : w < T) (hr : r < T)
    (h1 : ∀ xz : Nat → Int32, pl_ok T P kn ka xz → pa_pb D B P I kn ka kh kf (pa_B T D P I kh) (fun a b => ¬ xu (20 * a + b) = 0) w r → post 1 (xT, xL, xC, xG, xV, xA, xF, xD, xN, xS, xK, xI, kk, kb, kp, kn, ki, ka, kh, kd, kf, xb, nu, rs, vt, vn, va, ve, xo, xt, xp, xl, xd, xm, xz, xu, xe, xc, xf)) (h0 : ∀ xz : Nat → Int32, pl_ok T P kn ka xz → ¬ pa_pb D B P I kn ka kh kf (pa_B T D P I kh) (fun a b => ¬ xu (20 * a + b) = 0) w r → post 0 (xT, xL, xC, xG, xV, xA, xF, xD, xN, xS, xK, xI, kk, kb, kp, kn, ki, ka, kh, kd, kf, xb, nu, rs, vt, vn, va, ve, xo, xt, xp, xl, xd, xm, xz, xu, xe, xc, xf)) : (wpX_fails post (xT, xL, xC, xG, xV, xA, xF, xD, xN, xS, xK, xI, kk, kb, kp, kn, ki, ka, kh, kd, kf, xb, nu, rs, vt, vn, va, ve, xo, xt, xp, xl, xd, xm, xz, xu, xe, xc, xf) (nI w) (nI r)) := by
  have hT := sc_T20 hS
  have w20 : w < 20 := by omega
  have r20 : r < 20 := by omega
  have h9 := sc_k9 hA w
  have h9r := sc_k9 hA r
  have h5 := sc_p5 hA w
  have h5r := sc_p5 hA r
  have vw : vp_in (nI w) 20 := vp_in_nI w20 (by decide)
  have vr : vp_in (nI r) 20 := vp_in_nI r20 (by decide)
  refine And.intro vw ?_
  rw [bg_ck hA w20 rfl]
  by_cases e8 : D w = 8
  · refine br_t (by rw [e8]; rfl) (Exists.intro (P w + 1) (fa_13 hA w20 r20 (P w) 0 _ (by omega) (by omega) (fun h => h1 xz hz ?_) (fun h => h0 xz hz (fun z => ?_))))
    · obtain ⟨j, _, j1, j2⟩ := h
      exact Or.inl ⟨e8, j, j1, j2⟩
    · rcases z with ⟨_, j, j1, j2⟩ | ⟨z, _⟩ | ⟨z, _⟩
      · exact h j (by omega) j1 j2
      · exact z e8
      · exact z e8
  refine br_f (fun q => e8 ((ba_e8 (by omega)).mp q)) ⟨vr, ?_⟩
  rw [bg_ck hA r20 rfl]
  by_cases r8 : D r = 8
  · refine br_t (by rw [r8]; rfl) (xs_bf hA w20 r20 ?_)
    rcases sc_bf_r (D := D) (B := B) (P := P) (I := I) (w := w) (r := r) h5r with ⟨hf, _⟩ | ⟨f, hf1, hf, _⟩
    · rw [hf]
      exact br_t ba_m1lt (h1 xz hz (Or.inr (Or.inl ⟨e8, r8, Or.inl hf⟩)))
    · rw [hf]
      have i1 := sc_i20 hA (5 * r + f)
      refine br_f (nI_pos (by omega)) ?_
      rw [ba_5, nI_add, nI_clamp (n := 5 * r + f) (by omega), sc_i hA, ba_20, nI_add, nI_clamp (n := 20 * w + I (5 * r + f)) (by omega)]
      refine ⟨vp_in_nI (by omega) (by decide), vp_in_nI (by omega) (by decide), br_c (fun q => h0 xz hz (fun z => ?_)) (fun q => h1 xz hz (Or.inr (Or.inl ⟨e8, r8, Or.inr ⟨f, hf1, hf, q⟩⟩)))⟩
      rcases z with ⟨z, _⟩ | ⟨_, _, z | ⟨g, g1, g2, g3⟩⟩ | ⟨_, z, _⟩
      · exact e8 z
      · rw [hf] at z; exact (ba_em1 (by omega)).mp z
      · rw [hf] at g2
        have : f = g := ba_inj g2 (by omega) (by omega)
        rw [← this] at g3
        exact g3 q
      · exact z r8
  refine br_f (fun q => r8 ((ba_e8 (by omega)).mp q)) (xs_suits hA w20 r20 (fun su => br_f (by decide) ⟨vr, ?_⟩) (fun su => br_t rfl (h1 xz hz (Or.inr (Or.inr ⟨e8, r8, Or.inl su⟩)))))
  have no : ∀ {Q : Prop}, pa_pb D B P I kn ka kh kf (pa_B T D P I kh) (fun a b => ¬ xu (20 * a + b) = 0) w r → (pa_pc D B P I kn ka kh kf (pa_B T D P I kh) (fun a b => ¬ xu (20 * a + b) = 0) w r → Q) → Q := by
    intro Q z h
    rcases z with ⟨z, _⟩ | ⟨_, z, _⟩ | ⟨_, _, z | ⟨_, z⟩⟩
    · exact absurd z e8
    · exact absurd z r8
    · rw [su] at z; exact absurd z (by decide)
    · exact h z
  have yes : pa_pc D B P I kn ka kh kf (pa_B T D P I kh) (fun a b => ¬ xu (20 * a + b) = 0) w r → pa_pb D B P I kn ka kh kf (pa_B T D P I kh) (fun a b => ¬ xu (20 * a + b) = 0) w r := fun z => Or.inr (Or.inr ⟨e8, r8, Or.inr ⟨su, z⟩⟩)
  have sut := sc_su_t.mp su
  by_cases r7 : D r = 7
  · have b1 := sc_b20 hA w
    have b2 := sc_b20 hA r
    refine br_t (by rw [r7]; rfl) ?_
    rw [nI_clamp (n := w) (by omega), nI_clamp (n := r) (by omega), sc_b hA, sc_b hA, ba_20, nI_add, nI_clamp (n := 20 * B w + B r) (by omega)]
    refine ⟨vw, vr, vp_in_nI (by omega) (by decide), ?_⟩
    rcases hu (20 * B w + B r) (by omega) with q | q
    · rw [q]
      refine ⟨rfl, h0 xz hz (fun z => no z (fun z => ?_))⟩
      rcases z with ⟨_, z⟩ | ⟨z, _⟩ | ⟨z, _⟩
      · exact z q
      · omega
      · omega
    · rw [q]
      exact ⟨rfl, h1 xz hz (yes (Or.inl ⟨r7, by show ¬ xu (20 * B w + B r) = 0; rw [q]; decide⟩))⟩
  refine br_f (fun q => r7 ((ba_e7 (by omega)).mp q)) ⟨vr, ?_⟩
  by_cases r5 : D r = 5
  · refine br_t (by rw [r5]; rfl) (Exists.intro (P w + 1) (fa_166 hA w20 r20 (fun h => h1 xz hz (yes (Or.inr (Or.inl ⟨r5, h⟩)))) (fun h => h0 xz hz (fun z => no z (fun z => ?_))) (P w) 0 _ 1 (by omega) (by omega) (Or.inl ⟨rfl, fun j hj => by omega⟩)))
    rcases z with ⟨z, _⟩ | ⟨_, z⟩ | ⟨z, _⟩
    · omega
    · exact h z
    · omega
  refine br_f (fun q => r5 ((ba_e5 (by omega)).mp q)) ?_
  by_cases r9 : D r = 9
  · refine Exists.intro (P r + 1) (fa_231 hA hS he hw hr r9 (P r) 0 _ xz hz (by omega) (by omega) (fun xz' hz' h => h1 xz' hz' (yes ?_)) (fun xz' hz' h => h0 xz' hz' (fun z => no z (fun z => ?_))))
    · obtain ⟨j, _, j1, j2⟩ := h
      exact Or.inr (Or.inr ⟨r9, j, j1, j2⟩)
    · rcases z with ⟨z, _⟩ | ⟨z, _⟩ | ⟨_, j, j1, j2⟩
      · omega
      · omega
      · exact h j (by omega) j1 j2
  · have J : post 0 (xT, xL, xC, xG, xV, xA, xF, xD, xN, xS, xK, xI, kk, kb, kp, kn, ki, ka, kh, kd, kf, xb, nu, rs, vt, vn, va, ve, xo, xt, xp, xl, xd, xm, xz, xu, xe, xc, xf) := h0 xz hz (fun z => no z (fun z => by
      rcases z with ⟨z, _⟩ | ⟨z, _⟩ | ⟨z, _⟩ <;> omega))
    exact Exists.intro 1 (And.intro vr (br_c (fun _ => J) (fun _ => ⟨vr, br_f (by rw [bg_ck hA r20 rfl]; exact fun q => r9 ((ba_e9 (by omega)).mp q)) J⟩)))
/-! X's crossing out of pairs -/
theorem cp_o {x r : Int32} (hx : x = 0 ∨ x = 1) (hr : r = 0 ∨ r = 1) : x ||| r = if x = 0 then r else 1 := by
  rcases hx with e | e <;> rcases hr with f | f <;> rw [e, f] <;> decide
/-- sound, and 0 or 1 -/
def cp_S (T : Nat) (D B P I : Nat → Nat) (kn ka kh kf xu : Nat → Int32) : Prop := (∀ k, k < 400 → xu k = 0 ∨ xu k = 1) ∧ (∀ w r, w < T → r < T → ¬ xu (20 * w + r) = 0 → pa_U T D B P I kn ka kh kf w r)
theorem cp_32 (hA : sc_A D B P I kk kb kp ki) (hS : sc_T T D B P I kn kh kd kg) (he : ∀ t, t < T → (¬ xe t = 0 ↔ pa_B T D P I kh t)) {post : SX → Prop} {J24 : _} {xu0 : Nat → Int32}
    (K : ∀ (x1 : Int32) (xu xz : Nat → Int32), pl_ok T P kn ka xz → cp_S T D B P I kn ka kh kf xu → (∀ k, k < 400 → xu k = 0 → xu0 k = 0) → ((x1 = 0 ∧ ∀ k, k < 20 * T → k % 20 < T → k / 20 < T → pa_pb D B P I kn ka kh kf (pa_B T D P I kh) (fun a b => ¬ xu (20 * a + b) = 0) (k / 20) (k % 20) → ¬ xu k = 0) ∨ (x1 = 1 ∧ ∃ k, k < 400 ∧ xu0 k = 0 ∧ ¬ xu k = 0)) → J24 x1 (nI T) xL xC xG xV xA xF xD xN xS xK xI kk kb kp kn ki ka kh kd kf xb nu rs vt vn va ve xo xt xp xl xd xm xz xu xe xc xf) :
    ∀ (m i n : Nat) (x1 : Int32) (xu xz : Nat → Int32), i + m = 20 * T → m < n → pl_ok T P kn ka xz → cp_S T D B P I kn ka kh kf xu → (∀ k, k < 400 → xu k = 0 → xu0 k = 0) → ((x1 = 0 ∧ xu = xu0 ∧ (∀ k, k < i → k % 20 < T → k / 20 < T → pa_pb D B P I kn ka kh kf (pa_B T D P I kh) (fun a b => ¬ xu (20 * a + b) = 0) (k / 20) (k % 20) → ¬ xu k = 0)) ∨ (x1 = 1 ∧ ∃ k, k < 400 ∧ xu0 k = 0 ∧ ¬ xu k = 0)) → (wX_crossPairs_32 post J24 n x1 (nI i) (nI T) xL xC xG xV xA xF xD xN xS xK xI kk kb kp kn ki ka kh kd kf xb nu rs vt vn va ve xo xt xp xl xd xm xz xu xe xc xf) := by
  intro m
  have hT := sc_T20 hS
  induction m with
  | zero =>
    intro i n x1 xu xz hi hn hz hs hm hx
    obtain ⟨n, rfl⟩ : ∃ n', n = n' + 1 := ⟨n - 1, by omega⟩
    refine br_t (by rw [ba_20]; exact nI_le (by omega) (by omega)) (K x1 xu xz hz hs hm (hx.imp (fun h => ⟨h.1, fun k hk => h.2.2 k (by omega)⟩) id))
  | succ m ih =>
    intro i n x1 xu xz hi hn hz hs hm hx
    obtain ⟨n, rfl⟩ : ∃ n', n = n' + 1 := ⟨n - 1, by omega⟩
    have x01 : x1 = 0 ∨ x1 = 1 := hx.imp (fun h => h.1) (fun h => h.1)
    have vi : vp_in (nI i) 400 := vp_in_nI (by omega) (by decide)
    have ci : (nI i).toNatClampNeg = i := nI_clamp (by omega)
    have NX : ∀ xz : Nat → Int32, pl_ok T P kn ka xz → (i % 20 < T → i / 20 < T → pa_pb D B P I kn ka kh kf (pa_B T D P I kh) (fun a b => ¬ xu (20 * a + b) = 0) (i / 20) (i % 20) → ¬ xu i = 0) → (wX_crossPairs_32 post J24 n x1 (nI (i + 1)) (nI T) xL xC xG xV xA xF xD xN xS xK xI kk kb kp kn ki ka kh kd kf xb nu rs vt vn va ve xo xt xp xl xd xm xz xu xe xc xf) := by
      intro xz hz h
      refine ih (i + 1) n x1 xu xz (by omega) (by omega) hz hs hm (hx.imp (fun z => ⟨z.1, z.2.1, fun k hk => ?_⟩) id)
      by_cases e : k = i
      · rw [e]; exact h
      · exact z.2.2 k (by omega)
    have er : nI i - nI i / 20 * 20 = nI (i % 20) := pk_rem (d := 20) (by omega) (by omega) (by omega)
    have ed : nI i / 20 = nI (i / 20) := pk_div (d := 20) (by omega) (by omega) (by omega)
    refine br_f (by rw [ba_20]; exact nI_ge (by omega) (by omega)) ⟨vi, ?_⟩
    rw [ci]
    refine br_c (fun q => ⟨by decide, ?_⟩) (fun q => nm_r (nI_1 i) (NX xz hz (fun _ _ _ => q)))
    rw [er, ed]
    by_cases lt : i % 20 < T
    · refine br_t (nI_lt lt (by omega)) ⟨by decide, by decide, fa_main hA hS he hs.1 hz (by omega) lt (fun xz' hz' h => ?_) (fun xz' hz' h => ?_)⟩
      · have ei : 20 * (i / 20) + i % 20 = i := by omega
        refine ⟨vi, nm_r (e' := upd xu i 1) (by rw [ba_vz1]) (nm_r (e' := 1) (cb_o1 x01) (nm_r (nI_1 i) (ih (i + 1) n 1 (upd xu i 1) xz' (by omega) (by omega) hz' ⟨fun k hk => ?_, fun w r hw hr z => ?_⟩ (fun k hk z => ?_) (Or.inr ⟨rfl, i, by omega, hm i (by omega) q, by rw [ba_us]; decide⟩))))⟩
        · by_cases e : k = i
          · rw [e, ba_us]; exact Or.inr rfl
          · rw [ba_un e]; exact hs.1 k hk
        · by_cases e : 20 * w + r = i
          · have e1 : w = i / 20 := by omega
            have e2 : r = i % 20 := by omega
            rw [e1, e2]
            refine pp_cl (by omega) lt ?_
            have hU : ∀ a b, ¬ xu (20 * a + b) = 0 → a < T → b < T → pa_U T D B P I kn ka kh kf a b := fun a b z ha hb => hs.2 a b ha hb z
            exact cp_mono hS (by omega) lt (fun a b ha hb z => hs.2 a b ha hb z) h
          · rw [ba_un e] at z
            exact hs.2 w r hw hr z
        · by_cases e : k = i
          · rw [e, ba_us] at z; exact absurd z (by decide)
          · rw [ba_un e] at z; exact hm k hk z
      · have eu : upd xu i 0 = xu := ba_uu q
        refine ⟨vi, nm_r (e' := xu) (by rw [ba_vz0]; exact eu) (nm_r (e' := x1) (cb_o0 x01) (nm_r (nI_1 i) (NX xz' hz' (fun _ _ z => absurd z h))))⟩
    · exact br_f (nI_nlt (by omega) (by omega)) (nm_r (nI_1 i) (NX xz hz (fun z => absurd z lt)))
end
end
section
section
variable {xT xL xC xG xV xA xF xD xN xS xK xI yW yV yD yR yA yF yO : Int32} {kk kb kp kn ki ka kh kd kf xb vt va ve xo xt xp xl xd xm xz xu xe xc xf kg yb yw yt ys yc yl yn yo ym yf tv tt tg yp yh : Nat → Int32} {nu rs vn yv : Nat → Int64}
variable {D B P I : Nat → Nat} {T : Nat}
theorem cp_24 (hA : sc_A D B P I kk kb kp ki) (hS : sc_T T D B P I kn kh kd kg) (he : ∀ t, t < T → (¬ xe t = 0 ↔ pa_B T D P I kh t)) {post : SX → Prop} (K : ∀ xu xz : Nat → Int32, pl_ok T P kn ka xz → (∀ w r, w < T → r < T → (xu (20 * w + r) = 0 ∧ ¬ pa_U T D B P I kn ka kh kf w r) ∨ (¬ xu (20 * w + r) = 0 ∧ pa_U T D B P I kn ka kh kf w r)) → post (nI T, xL, xC, xG, xV, xA, xF, xD, xN, xS, xK, xI, kk, kb, kp, kn, ki, ka, kh, kd, kf, xb, nu, rs, vt, vn, va, ve, xo, xt, xp, xl, xd, xm, xz, xu, xe, xc, xf)) :
    ∀ (m n : Nat) (xu xz : Nat → Int32), ct_z xu 0 400 < m → m + 1 < n → pl_ok T P kn ka xz → cp_S T D B P I kn ka kh kf xu → (wX_crossPairs_24 post n 1 (nI T) xL xC xG xV xA xF xD xN xS xK xI kk kb kp kn ki ka kh kd kf xb nu rs vt vn va ve xo xt xp xl xd xm xz xu xe xc xf) := by
  intro m
  have hT := sc_T20 hS
  induction m with
  | zero => intro n xu xz h; omega
  | succ m ih =>
    intro n xu0 xz0 hm hn hz hs
    obtain ⟨n, rfl⟩ : ∃ n', n = n' + 1 := ⟨n - 1, by omega⟩
    refine br_f (by decide) (Exists.intro (20 * T + 1) (cp_32 hA hS he (xu0 := xu0) (fun x1 xu xz hz1 hs1 hm1 hx1 => ?_) (20 * T) 0 _ 0 xu0 xz0 (by omega) (by omega) hz hs (fun k _ z => z) (Or.inl ⟨rfl, rfl, fun k hk => by omega⟩)))
    rcases hx1 with ⟨e, cl⟩ | ⟨e, k, t1, t2, t3⟩
    · rw [e]
      obtain ⟨n, rfl⟩ : ∃ n', n = n' + 1 := ⟨n - 1, by omega⟩
      refine br_t rfl (K xu xz hz1 (fun w r hw hr => ?_))
      by_cases z : xu (20 * w + r) = 0
      · refine Or.inl ⟨z, fun h => ?_⟩
        have cls : ∀ a b, a < T → b < T → pa_pb D B P I kn ka kh kf (pa_B T D P I kh) (fun a b => ¬ xu (20 * a + b) = 0) a b → ¬ xu (20 * a + b) = 0 := by
          intro a b ha hb hab
          have e1 : (20 * a + b) / 20 = a := by omega
          have e2 : (20 * a + b) % 20 = b := by omega
          refine cl (20 * a + b) (by omega) (by omega) (by omega) ?_
          rw [e1, e2]; exact hab
        exact h (fun a b => ¬ xu (20 * a + b) = 0) cls z
      · exact Or.inr ⟨z, hs1.2 w r hw hr z⟩
    · rw [e]
      exact ih n xu xz (by have := ct_zlt (a := xu0) (a' := xu) (v := 0) (n := 400) hm1 ⟨k, t1, t2, t3⟩; omega) (by omega) hz1 hs1
theorem cp_2 {post : SX → Prop} : ∀ (m i n : Nat) (xu : Nat → Int32), i + m = 400 → m < n → (∀ k, k < i → xu k = 0) →
    (∀ xu : Nat → Int32, (∀ k, k < 400 → xu k = 0) → ∃ n, (wX_crossPairs_24 post n 1 xT xL xC xG xV xA xF xD xN xS xK xI kk kb kp kn ki ka kh kd kf xb nu rs vt vn va ve xo xt xp xl xd xm xz xu xe xc xf)) → (wX_crossPairs_2 post xT xL xC xG xV xA xF xD xN xS xK xI n (nI i) kk kb kp kn ki ka kh kd kf xb nu rs vt vn va ve xo xt xp xl xd xm xz xu xe xc xf) := by
  intro m
  induction m with
  | zero =>
    intro i n xu hi hn h K
    obtain ⟨n, rfl⟩ : ∃ n', n = n' + 1 := ⟨n - 1, by omega⟩
    exact br_t ((ba_ge400 (by omega)).mpr (by omega)) (K xu (fun k hk => h k (by omega)))
  | succ m ih =>
    intro i n xu hi hn h K
    obtain ⟨n, rfl⟩ : ∃ n', n = n' + 1 := ⟨n - 1, by omega⟩
    refine br_f (fun q => by have := (ba_ge400 (by omega)).mp q; omega) ⟨vp_in_nI (by omega) (by decide), nm_r (e' := upd xu i 0) (by rw [nI_clamp (by omega), ba_vz0]) (nm_r (nI_1 i) (ih (i + 1) n _ (by omega) (by omega) (fun j hj => ?_) K))⟩
    by_cases e : j = i
    · rw [e, ba_us]
    · rw [ba_un e]; exact h j (by omega)
theorem cp_main (hA : sc_A D B P I kk kb kp ki) (hS : sc_T T D B P I kn kh kd kg) (he : ∀ t, t < T → (¬ xe t = 0 ↔ pa_B T D P I kh t)) (hz : pl_ok T P kn ka xz) {post : SX → Prop} (K : ∀ xu xz : Nat → Int32, pl_ok T P kn ka xz → (∀ w r, w < T → r < T → (xu (20 * w + r) = 0 ∧ ¬ pa_U T D B P I kn ka kh kf w r) ∨ (¬ xu (20 * w + r) = 0 ∧ pa_U T D B P I kn ka kh kf w r)) → post (nI T, xL, xC, xG, xV, xA, xF, xD, xN, xS, xK, xI, kk, kb, kp, kn, ki, ka, kh, kd, kf, xb, nu, rs, vt, vn, va, ve, xo, xt, xp, xl, xd, xm, xz, xu, xe, xc, xf)) : (wpX_crossPairs post (nI T, xL, xC, xG, xV, xA, xF, xD, xN, xS, xK, xI, kk, kb, kp, kn, ki, ka, kh, kd, kf, xb, nu, rs, vt, vn, va, ve, xo, xt, xp, xl, xd, xm, xz, xu, xe, xc, xf)) := by
  have hT := sc_T20 hS
  refine Exists.intro 401 (cp_2 400 0 _ xu (by omega) (by omega) (fun j hj => by omega) (fun xu h => Exists.intro 403 (cp_24 hA hS he K 401 403 xu xz ?_ (by omega) hz ⟨fun k hk => Or.inl (h k hk), fun w r hw hr z => absurd (h _ (by omega)) z⟩)))
  have := ct_n (q := fun i => decide (xu i = 0)) 400
  show pa_ct (fun i => decide (xu i = 0)) 400 < 401
  omega
/-- X knows -/
theorem kn_main (hA : sc_A D B P I kk kb kp ki) (hS : sc_T T D B P I kn kh kd kg) (hz : pl_ok T P kn ka xz) (hk : xK = 0 ∨ (xK = 1 ∧ kn_ok T D B P I kn ka kh kd kf xu xc xI)) {post : SX → Prop}
    (K : ∀ (xI : Int32) (xz xu xe xc xf : Nat → Int32), pl_ok T P kn ka xz → kn_ok T D B P I kn ka kh kd kf xu xc xI → post (nI T, xL, xC, xG, xV, xA, xF, xD, xN, xS, 1, xI, kk, kb, kp, kn, ki, ka, kh, kd, kf, xb, nu, rs, vt, vn, va, ve, xo, xt, xp, xl, xd, xm, xz, xu, xe, xc, xf)) : (wpX_know post (nI T, xL, xC, xG, xV, xA, xF, xD, xN, xS, xK, xI, kk, kb, kp, kn, ki, ka, kh, kd, kf, xb, nu, rs, vt, vn, va, ve, xo, xt, xp, xl, xd, xm, xz, xu, xe, xc, xf)) := by
  rcases hk with e | ⟨e, h⟩
  · refine br_t e ?_
    refine pr_main hA hS (fun c xc xf h1 h2 => ?_)
    refine cb_main hA hS (fun xe he => ?_)
    refine cp_main hA hS he hz (fun xu xz hz hu => ?_)
    obtain ⟨q, q1, q2⟩ := h2
    exact K (nI c) xz xu xe xc xf hz ⟨hu, h1, q, q1, by rw [q2]⟩
  · subst e
    exact br_f (by decide) (K xI xz xu xe xc xf hz h)
end
end
section
section
variable {xT xL xC xG xV xA xF xD xN xS xK xI yW yV yD yR yA yF yO : Int32} {kk kb kp kn ki ka kh kd kf xb vt va ve xo xt xp xl xd xm xz xu xe xc xf kg yb yw yt ys yc yl yn yo ym yf tv tt tg yp yh : Nat → Int32} {nu rs vn yv : Nat → Int64}
variable {D B P I : Nat → Nat} {T : Nat}
/-! Y: types with a default -/
theorem yw_69 (hA : sc_A D B P I kk kb kp ki) {post : Int32 → Prop} {t : Nat} (ht : t < 20) (h9 : D t = 9) : ∀ (m k n : Nat), k + m = P t → m < n →
    ((∃ j, k ≤ j ∧ j < P t ∧ (kh (5 * t + j) = 0 ∨ yh (I (5 * t + j)) = 0)) → post 0) → ((∀ j, k ≤ j → j < P t → ¬ (kh (5 * t + j) = 0 ∨ yh (I (5 * t + j)) = 0)) → post 1) → (wY_isWhole_69 post (nI t) xT xL yW xC xG yV yD yR yA yF yO kk kb kp kf kn ki ka kg kh yb yw nu rs yt ys yc yl yn yv yo ym yf tv tt tg yp yh n (nI k)) := by
  intro m
  have h5 := sc_p5 hA t
  have vt' : vp_in (nI t) 20 := vp_in_nI ht (by decide)
  induction m with
  | zero =>
    intro k n hk hn h0 h1
    obtain ⟨n, rfl⟩ : ∃ n', n = n' + 1 := ⟨n - 1, by omega⟩
    exact And.intro vt' (br_t (by rw [bg_cp hA ht]; exact nI_le (by omega) (by omega)) (h1 (fun j a b => by omega)))
  | succ m ih =>
    intro k n hk hn h0 h1
    obtain ⟨n, rfl⟩ : ∃ n', n = n' + 1 := ⟨n - 1, by omega⟩
    have i1 := sc_i20 hA (5 * t + k)
    have v5 : vp_in (nI (5 * t + k)) 100 := vp_in_nI (by omega) (by decide)
    refine And.intro vt' (br_f (by rw [bg_cp hA ht]; exact nI_ge (by omega) (by omega)) ⟨vt', br_t (by rw [bg_ck hA ht h9]; rfl) ?_⟩)
    rw [ba_5, nI_add, nI_clamp (n := 5 * t + k) (by omega), sc_i hA, nI_clamp (n := I (5 * t + k)) (by omega)]
    refine ⟨v5, br_c (fun q => h0 ⟨k, Nat.le_refl _, by omega, Or.inl q⟩) (fun q => ⟨v5, vp_in_nI i1 (by decide), br_c (fun q2 => h0 ⟨k, Nat.le_refl _, by omega, Or.inr q2⟩) (fun q2 => nm_r (nI_1 k) (ih (k + 1) n (by omega) (by omega) (fun h => h0 ?_) (fun h => h1 (fun j a b => ?_))))⟩)⟩
    · obtain ⟨j, a, b, c⟩ := h
      exact ⟨j, by omega, b, c⟩
    · by_cases e : j = k
      · rw [e]; exact fun z => z.elim q q2
      · exact h j (by omega) b
theorem yw_is (hA : sc_A D B P I kk kb kp ki) {post : Int32 → Prop} {t : Nat} (ht : t < 20) (h0 : pa_bb D P I kh (fun j => yh j = 0) t → post 0) (h1 : ¬ pa_bb D P I kh (fun j => yh j = 0) t → post 1) : (wpY_isWhole post (xT, xL, yW, xC, xG, yV, yD, yR, yA, yF, yO, kk, kb, kp, kf, kn, ki, ka, kg, kh, yb, yw, nu, rs, yt, ys, yc, yl, yn, yv, yo, ym, yf, tv, tt, tg, yp, yh) (nI t)) := by
  have h9 := sc_k9 hA t
  have h5 := sc_p5 hA t
  have vt' : vp_in (nI t) 20 := vp_in_nI ht (by decide)
  have i1 := sc_i20 hA (5 * t)
  refine And.intro vt' ?_
  rw [bg_ck hA ht rfl]
  by_cases e5 : D t = 5
  · refine br_t (by rw [e5]; rfl) ⟨vt', ?_⟩
    rw [bg_cp hA ht]
    refine br_c (fun q => h0 (Or.inl ⟨e5, (ba_le0 (by omega)).mp q⟩)) (fun q => h1 (fun z => ?_))
    rcases z with ⟨_, z⟩ | ⟨z, _⟩ | ⟨z, _⟩
    · exact q ((ba_le0 (by omega)).mpr z)
    · omega
    · omega
  refine br_f (fun q => e5 ((ba_e5 (by omega)).mp q)) ⟨vt', ?_⟩
  by_cases e8 : D t = 8
  · refine br_t (by rw [e8]; rfl) ⟨vt', ?_⟩
    rw [bg_cp hA ht]
    refine br_c (fun q => h0 (Or.inr (Or.inl ⟨e8, Or.inl ((ba_le0 (by omega)).mp q)⟩))) (fun q => ?_)
    rw [ba_5, nI_clamp (n := 5 * t) (by omega), sc_i hA, nI_clamp (n := I (5 * t)) (by omega)]
    refine ⟨vp_in_nI (by omega) (by decide), vp_in_nI i1 (by decide), br_c (fun q2 => h0 (Or.inr (Or.inl ⟨e8, Or.inr q2⟩))) (fun q2 => h1 (fun z => ?_))⟩
    rcases z with ⟨z, _⟩ | ⟨_, z | z⟩ | ⟨z, _⟩
    · omega
    · exact q ((ba_le0 (by omega)).mpr z)
    · exact q2 z
    · omega
  refine br_f (fun q => e8 ((ba_e8 (by omega)).mp q)) ?_
  by_cases e9 : D t = 9
  · refine Exists.intro (P t + 1) (yw_69 hA ht e9 (P t) 0 _ (by omega) (by omega) (fun h => h0 ?_) (fun h => h1 (fun z => ?_)))
    · obtain ⟨j, _, j1, j2⟩ := h
      exact Or.inr (Or.inr ⟨e9, j, j1, j2⟩)
    · rcases z with ⟨z, _⟩ | ⟨z, _⟩ | ⟨_, j, j1, j2⟩
      · omega
      · omega
      · exact h j (by omega) j1 j2
  · have J : post 1 := h1 (fun z => by rcases z with ⟨z, _⟩ | ⟨z, _⟩ | ⟨z, _⟩ <;> omega)
    exact Exists.intro 1 (And.intro vt' (br_c (fun _ => J) (fun _ => ⟨vt', br_f (by rw [bg_ck hA ht rfl]; exact fun q => e9 ((ba_e9 (by omega)).mp q)) J⟩)))
def yw_S (T : Nat) (D P I : Nat → Nat) (kh yh : Nat → Int32) : Prop := (∀ t, t < T → yh t = 0 ∨ yh t = 1) ∧ (∀ t, t < T → yh t = 0 → pa_B T D P I kh t)
theorem yw_mono (hS : sc_T T D B P I kn kh kd kg) {S S' : Nat → Prop} {t : Nat} (ht : t < T) (h : ∀ j, j < T → S j → S' j) (hb : pa_bb D P I kh S t) : pa_bb D P I kh S' t := by
  have iT : ∀ j, I j < T := fun j => sc_iT hS j (by omega)
  rcases hb with a | ⟨a, b⟩ | ⟨a, k, b, c⟩
  · exact Or.inl a
  · exact Or.inr (Or.inl ⟨a, b.imp id (h _ (iT _))⟩)
  · exact Or.inr (Or.inr ⟨a, k, b, c.imp id (h _ (iT _))⟩)
theorem yw_33 (hA : sc_A D B P I kk kb kp ki) (hS : sc_T T D B P I kn kh kd kg) {post : SY → Prop} {J25 : _} {yh0 : Nat → Int32}
    (K : ∀ (x1 : Int32) (yh : Nat → Int32), yw_S T D P I kh yh → (∀ t, t < T → yh t = 1 → yh0 t = 1) → ((x1 = 0 ∧ (∀ t, t < T → pa_bb D P I kh (fun j => yh j = 0) t → yh t = 0)) ∨ (x1 = 1 ∧ ∃ t, t < T ∧ yh0 t = 1 ∧ ¬ yh t = 1)) → J25 x1 kk kb kp kf kn ki ka kg kh yb yw nu rs yt ys yc yl yn yv yo ym yf tv tt tg yp yh) :
    ∀ (m i n : Nat) (x1 : Int32) (yh : Nat → Int32), i + m = T → m < n → yw_S T D P I kh yh → (∀ t, t < T → yh t = 1 → yh0 t = 1) → ((x1 = 0 ∧ yh = yh0 ∧ (∀ t, t < i → pa_bb D P I kh (fun j => yh j = 0) t → yh t = 0)) ∨ (x1 = 1 ∧ ∃ t, t < T ∧ yh0 t = 1 ∧ ¬ yh t = 1)) → (wY_findWhole_33 post J25 (nI T) xL yW xC xG yV yD yR yA yF yO n x1 (nI i) kk kb kp kf kn ki ka kg kh yb yw nu rs yt ys yc yl yn yv yo ym yf tv tt tg yp yh) := by
  intro m
  have hT := sc_T20 hS
  induction m with
  | zero =>
    intro i n x1 yh hi hn hs hm hx
    obtain ⟨n, rfl⟩ : ∃ n', n = n' + 1 := ⟨n - 1, by omega⟩
    obtain rfl : i = T := by omega
    exact br_t (Int32.le_refl _) (K x1 yh hs hm (hx.imp (fun h => ⟨h.1, h.2.2⟩) id))
  | succ m ih =>
    intro i n x1 yh hi hn hs hm hx
    obtain ⟨n, rfl⟩ : ∃ n', n = n' + 1 := ⟨n - 1, by omega⟩
    have vi : vp_in (nI i) 20 := vp_in_nI (by omega) (by decide)
    have ci : (nI i).toNatClampNeg = i := nI_clamp (by omega)
    have NX : (pa_bb D P I kh (fun j => yh j = 0) i → yh i = 0) → (wY_findWhole_33 post J25 (nI T) xL yW xC xG yV yD yR yA yF yO n x1 (nI (i + 1)) kk kb kp kf kn ki ka kg kh yb yw nu rs yt ys yc yl yn yv yo ym yf tv tt tg yp yh) := by
      intro h
      refine ih (i + 1) n x1 yh (by omega) (by omega) hs hm (hx.imp (fun z => ⟨z.1, z.2.1, fun t ht => ?_⟩) id)
      by_cases e : t = i
      · rw [e]; exact h
      · exact z.2.2 t (by omega)
    refine br_f (nI_ge (by omega) (by omega)) ⟨vi, ?_⟩
    rw [ci]
    refine br_c (fun q => And.intro vi ?_) (fun q => yw_is hA (by omega) (fun h => br_t rfl (And.intro vi ?_)) (fun h => br_f (by decide) (And.intro vi ?_)))
    · rw [ci]
      exact br_t q.symm ⟨vi, nm_r (e' := yh) (by rw [ba_vz0]; exact ba_uu q) (nm_r (nI_1 i) (NX (fun _ => q)))⟩
    · rw [ci]
      have y1 : yh i = 1 := (hs.1 i (by omega)).resolve_left q
      refine br_f (fun e => q e.symm) ⟨vi, nm_r (e' := upd yh i 0) (by rw [ba_vz0]) (nm_r (nI_1 i) (ih (i + 1) n 1 (upd yh i 0) (by omega) (by omega) ⟨fun t ht => ?_, fun t ht z => ?_⟩ (fun t ht z => ?_) (Or.inr ⟨rfl, i, by omega, hm i (by omega) y1, by rw [ba_us]; decide⟩)))⟩
      · by_cases e : t = i
        · rw [e, ba_us]; exact Or.inl rfl
        · rw [ba_un e]; exact hs.1 t ht
      · by_cases e : t = i
        · rw [e]
          exact pb_cl (by omega) (yw_mono hS (by omega) (fun j hj z => hs.2 j hj z) h)
        · rw [ba_un e] at z; exact hs.2 t ht z
      · by_cases e : t = i
        · rw [e, ba_us] at z; exact absurd z (by decide)
        · rw [ba_un e] at z; exact hm t ht z
    · rw [ci]
      have y1 : yh i = 1 := (hs.1 i (by omega)).resolve_left q
      exact br_t y1.symm ⟨vi, nm_r (e' := yh) (by rw [ba_vz1]; exact ba_uu y1) (nm_r (nI_1 i) (NX (fun z => absurd z h)))⟩
theorem yw_25 (hA : sc_A D B P I kk kb kp ki) (hS : sc_T T D B P I kn kh kd kg) {post : SY → Prop} (K : ∀ yh : Nat → Int32, (∀ t, t < T → (yh t = 0 ↔ pa_B T D P I kh t)) → post (nI T, xL, yW, xC, xG, yV, yD, yR, yA, yF, yO, kk, kb, kp, kf, kn, ki, ka, kg, kh, yb, yw, nu, rs, yt, ys, yc, yl, yn, yv, yo, ym, yf, tv, tt, tg, yp, yh)) :
    ∀ (m n : Nat) (yh : Nat → Int32), ct_z yh 1 T < m → m + 1 < n → yw_S T D P I kh yh → (wY_findWhole_25 post (nI T) xL yW xC xG yV yD yR yA yF yO n 1 kk kb kp kf kn ki ka kg kh yb yw nu rs yt ys yc yl yn yv yo ym yf tv tt tg yp yh) := by
  intro m
  induction m with
  | zero => intro n yh h; omega
  | succ m ih =>
    intro n yh0 hm hn hs
    obtain ⟨n, rfl⟩ : ∃ n', n = n' + 1 := ⟨n - 1, by omega⟩
    refine br_f (by decide) (Exists.intro (T + 1) (yw_33 hA hS (yh0 := yh0) (fun x1 yh hs1 hm1 hx1 => ?_) T 0 _ 0 yh0 (by omega) (by omega) hs (fun t _ z => z) (Or.inl ⟨rfl, rfl, fun t ht => by omega⟩)))
    rcases hx1 with ⟨e, cl⟩ | ⟨e, t, t1, t2, t3⟩
    · rw [e]
      obtain ⟨n, rfl⟩ : ∃ n', n = n' + 1 := ⟨n - 1, by omega⟩
      exact br_t rfl (K yh (fun t ht => ⟨hs1.2 t ht, fun h => h (fun j => yh j = 0) cl⟩))
    · rw [e]
      exact ih n yh (by have := ct_zlt (a := yh0) (a' := yh) (v := 1) (n := T) hm1 ⟨t, t1, t2, t3⟩; omega) (by omega) hs1
theorem yw_2 (hT : T ≤ 20) {post : SY → Prop} : ∀ (m i n : Nat) (yh : Nat → Int32), i + m = T → m < n → (∀ t, t < i → yh t = 1) →
    (∀ yh : Nat → Int32, (∀ t, t < T → yh t = 1) → ∃ n, (wY_findWhole_25 post (nI T) xL yW xC xG yV yD yR yA yF yO n 1 kk kb kp kf kn ki ka kg kh yb yw nu rs yt ys yc yl yn yv yo ym yf tv tt tg yp yh)) → (wY_findWhole_2 post (nI T) xL yW xC xG yV yD yR yA yF yO n (nI i) kk kb kp kf kn ki ka kg kh yb yw nu rs yt ys yc yl yn yv yo ym yf tv tt tg yp yh) := by
  intro m
  induction m with
  | zero =>
    intro i n yh hi hn h K
    obtain ⟨n, rfl⟩ : ∃ n', n = n' + 1 := ⟨n - 1, by omega⟩
    obtain rfl : i = T := by omega
    exact br_t (Int32.le_refl _) (K yh h)
  | succ m ih =>
    intro i n yh hi hn h K
    obtain ⟨n, rfl⟩ : ∃ n', n = n' + 1 := ⟨n - 1, by omega⟩
    refine br_f (nI_ge (by omega) (by omega)) ⟨vp_in_nI (by omega) (by decide), nm_r (e' := upd yh i 1) (by rw [nI_clamp (by omega), ba_vz1]) (nm_r (nI_1 i) (ih (i + 1) n _ (by omega) (by omega) (fun j hj => ?_) K))⟩
    by_cases e : j = i
    · rw [e, ba_us]
    · rw [ba_un e]; exact h j (by omega)
theorem yw_main (hA : sc_A D B P I kk kb kp ki) (hS : sc_T T D B P I kn kh kd kg) {post : SY → Prop} (K : ∀ yh : Nat → Int32, (∀ t, t < T → (yh t = 0 ↔ pa_B T D P I kh t)) → post (nI T, xL, yW, xC, xG, yV, yD, yR, yA, yF, yO, kk, kb, kp, kf, kn, ki, ka, kg, kh, yb, yw, nu, rs, yt, ys, yc, yl, yn, yv, yo, ym, yf, tv, tt, tg, yp, yh)) : (wpY_findWhole post (nI T, xL, yW, xC, xG, yV, yD, yR, yA, yF, yO, kk, kb, kp, kf, kn, ki, ka, kg, kh, yb, yw, nu, rs, yt, ys, yc, yl, yn, yv, yo, ym, yf, tv, tt, tg, yp, yh)) := by
  have hT := sc_T20 hS
  refine Exists.intro (T + 1) (yw_2 hT T 0 _ yh (by omega) (by omega) (fun j hj => by omega) (fun yh h => Exists.intro 30 (yw_25 hA hS K 25 30 yh ?_ (by omega) ⟨fun t ht => Or.inr (h t ht), fun t ht z => by rw [h t ht] at z; exact absurd z (by decide)⟩)))
  have := ct_n (q := fun i => decide (yh i = 1)) T
  show pa_ct (fun i => decide (yh i = 1)) T < 25
  omega
end
end
section
section
variable {xT xL xC xG xV xA xF xD xN xS xK xI yW yV yD yR yA yF yO : Int32} {kk kb kp kn ki ka kh kd kf xb vt va ve xo xt xp xl xd xm xz xu xe xc xf kg yb yw yt ys yc yl yn yo ym yf tv tt tg yp yh : Nat → Int32} {nu rs vn yv : Nat → Int64}
variable {D B P I : Nat → Nat} {T : Nat}
/-! Y: pairs that hold -/
theorem yh_13 (hA : sc_A D B P I kk kb kp ki) {post : Int32 → Prop} {w r : Nat} (hw : w < 20) (hr : r < 20) : ∀ (m k n : Nat), k + m = P w → m < n →
    ((∃ j, k ≤ j ∧ j < P w ∧ yp (20 * I (5 * w + j) + r) = 0) → post 0) → ((∀ j, k ≤ j → j < P w → ¬ yp (20 * I (5 * w + j) + r) = 0) → post 1) → (wY_holds_13 post (nI w) (nI r) xT xL yW xC xG yV yD yR yA yF yO kk kb kp kf kn ki ka kg kh yb yw nu rs yt ys yc yl yn yv yo ym yf tv tt tg yp yh n (nI k)) := by
  intro m
  have h5 := sc_p5 hA w
  have vw : vp_in (nI w) 20 := vp_in_nI hw (by decide)
  induction m with
  | zero =>
    intro k n hk hn h0 h1
    obtain ⟨n, rfl⟩ : ∃ n', n = n' + 1 := ⟨n - 1, by omega⟩
    exact And.intro vw (br_t (by rw [bg_cp hA hw]; exact nI_le (by omega) (by omega)) (h1 (fun j a b => by omega)))
  | succ m ih =>
    intro k n hk hn h0 h1
    obtain ⟨n, rfl⟩ : ∃ n', n = n' + 1 := ⟨n - 1, by omega⟩
    have i1 := sc_i20 hA (5 * w + k)
    refine And.intro vw (br_f (by rw [bg_cp hA hw]; exact nI_ge (by omega) (by omega)) ?_)
    rw [ba_5, nI_add, nI_clamp (n := 5 * w + k) (by omega), sc_i hA, ba_20, nI_add, nI_clamp (n := 20 * I (5 * w + k) + r) (by omega)]
    refine ⟨vp_in_nI (by omega) (by decide), vp_in_nI (by omega) (by decide), br_c (fun q => h0 ⟨k, Nat.le_refl _, by omega, q⟩) (fun q => nm_r (nI_1 k) (ih (k + 1) n (by omega) (by omega) (fun h => h0 ?_) (fun h => h1 (fun j a b => ?_))))⟩
    · obtain ⟨j, a, b, c⟩ := h
      exact ⟨j, by omega, b, c⟩
    · by_cases e : j = k
      · rw [e]; exact q
      · exact h j (by omega) b
theorem yh_174 (hA : sc_A D B P I kk kb kp ki) {post : Int32 → Prop} {w r : Nat} (hw : w < 20) (hr : r < 20) (h5w : D w = 5) : ∀ (m k n : Nat), k + m = P w → m < n →
    ((kf r < 0 ∧ ∃ j, k ≤ j ∧ j < P w ∧ sc_find P kn r (kn (5 * w + j)) = -1) → post 0) → (¬ (kf r < 0 ∧ ∃ j, k ≤ j ∧ j < P w ∧ sc_find P kn r (kn (5 * w + j)) = -1) → post 1) → (wY_holds_174 post (nI w) (nI r) xT xL yW xC xG yV yD yR yA yF yO kk kb kp kf kn ki ka kg kh yb yw nu rs yt ys yc yl yn yv yo ym yf tv tt tg yp yh n (nI k)) := by
  intro m
  have h5 := sc_p5 hA w
  have h5r := sc_p5 hA r
  have vw : vp_in (nI w) 20 := vp_in_nI hw (by decide)
  have vr : vp_in (nI r) 20 := vp_in_nI hr (by decide)
  have cr : (nI r).toNatClampNeg = r := nI_clamp (by omega)
  induction m with
  | zero =>
    intro k n hk hn h0 h1
    obtain ⟨n, rfl⟩ : ∃ n', n = n' + 1 := ⟨n - 1, by omega⟩
    refine And.intro vw (br_t (by rw [bg_cp hA hw]; exact nI_le (by omega) (by omega)) (h1 (fun z => ?_)))
    obtain ⟨_, j, a, b, _⟩ := z
    omega
  | succ m ih =>
    intro k n hk hn h0 h1
    obtain ⟨n, rfl⟩ : ∃ n', n = n' + 1 := ⟨n - 1, by omega⟩
    have NX : (¬ kf r < 0 ∨ ¬ sc_find P kn r (kn (5 * w + k)) = -1) → (wY_holds_174 post (nI w) (nI r) xT xL yW xC xG yV yD yR yA yF yO kk kb kp kf kn ki ka kg kh yb yw nu rs yt ys yc yl yn yv yo ym yf tv tt tg yp yh n (nI (k + 1))) := by
      intro q
      refine ih (k + 1) n (by omega) (by omega) (fun h => h0 ?_) (fun h => h1 (fun z => h ?_))
      · obtain ⟨a, j, b, c, d⟩ := h
        exact ⟨a, j, by omega, c, d⟩
      · obtain ⟨a, j, b, c, d⟩ := z
        refine ⟨a, j, ?_, c, d⟩
        by_cases e : j = k
        · exfalso
          rw [e] at d
          exact q.elim (fun y => y a) (fun y => y d)
        · omega
    refine And.intro vw (br_f (by rw [bg_cp hA hw]; exact nI_ge (by omega) (by omega)) ⟨vw, br_t (by rw [bg_ck hA hw h5w]; rfl) ⟨vr, ?_⟩⟩)
    rw [cr]
    refine br_c (fun q => nm_r (nI_1 k) (NX (Or.inl (Int32.not_lt.mpr q)))) (fun q => ?_)
    rw [ba_5, nI_add, nI_clamp (n := 5 * w + k) (by omega)]
    refine ⟨vp_in_nI (by omega) (by decide), yn_find hA hr ?_⟩
    rcases sc_find_r (P := P) (kn := kn) (t := r) (kn (5 * w + k)) h5r with ⟨hf, _⟩ | ⟨f, hf1, hf, _⟩
    · rw [hf]
      exact br_f ba_m1le (h0 ⟨Int32.not_le.mp q, k, Nat.le_refl _, by omega, hf⟩)
    · rw [hf]
      refine br_t (nI_pos' (by omega)) (nm_r (nI_1 k) (NX (Or.inr ?_)))
      rw [hf]; exact fun z => (ba_em1 (by omega)).mp z
def yh_k (T : Nat) (D P I : Nat → Nat) (kn ka kh yp : Nat → Int32) (w r k : Nat) : Prop :=
  (sc_pl P kn ka w r k = -1 ∧ (kh (5 * r + k) = 0 ∨ pa_B T D P I kh (I (5 * r + k)))) ∨ ∃ f, f < P w ∧ sc_pl P kn ka w r k = nI f ∧ yp (20 * I (5 * w + f) + I (5 * r + k)) = 0
theorem yh_4 (hA : sc_A D B P I kk kb kp ki) (hS : sc_T T D B P I kn kh kd kg) (he : ∀ t, t < T → (yh t = 0 ↔ pa_B T D P I kh t)) {post : Int32 → Prop} {w r : Nat} (hw : w < T) (hr : r < T) : ∀ (m k n : Nat), k + m = P r → m < n →
    ((∃ j, k ≤ j ∧ j < P r ∧ yh_k T D P I kn ka kh yp w r j) → post 0) → ((∀ j, k ≤ j → j < P r → ¬ yh_k T D P I kn ka kh yp w r j) → post 1) → (wY_fieldsHold_4 post (nI w) (nI r) xT xL yW xC xG yV yD yR yA yF yO kk kb kp kf kn ki ka kg kh yb yw nu rs yt ys yc yl yn yv yo ym yf tv tt tg yp yh n (nI (5 * r + k))) := by
  intro m
  have hT := sc_T20 hS
  have h5 := sc_p5 hA r
  have h5w := sc_p5 hA w
  have w20 : w < 20 := by omega
  have r20 : r < 20 := by omega
  have vr : vp_in (nI r) 20 := vp_in_nI r20 (by decide)
  have e5 : (5 * nI r) + (kp (nI r).toNatClampNeg) = nI (5 * r + P r) := by rw [bg_cp hA r20, ba_5, nI_add]
  induction m with
  | zero =>
    intro k n hk hn h0 h1
    obtain ⟨n, rfl⟩ : ∃ n', n = n' + 1 := ⟨n - 1, by omega⟩
    refine And.intro vr ?_
    rw [e5]
    exact br_t (nI_le (by omega) (by omega)) (h1 (fun j a b => by omega))
  | succ m ih =>
    intro k n hk hn h0 h1
    obtain ⟨n, rfl⟩ : ∃ n', n = n' + 1 := ⟨n - 1, by omega⟩
    have i1 := sc_iT hS (5 * r + k) (by omega)
    have v5 : vp_in (nI (5 * r + k)) 100 := vp_in_nI (by omega) (by decide)
    have c5 : (nI (5 * r + k)).toNatClampNeg = 5 * r + k := nI_clamp (by omega)
    have NX : ¬ yh_k T D P I kn ka kh yp w r k → (wY_fieldsHold_4 post (nI w) (nI r) xT xL yW xC xG yV yD yR yA yF yO kk kb kp kf kn ki ka kg kh yb yw nu rs yt ys yc yl yn yv yo ym yf tv tt tg yp yh n (nI (5 * r + k + 1))) := by
      intro q
      refine ih (k + 1) n (by omega) (by omega) (fun h => h0 ?_) (fun h => h1 (fun j a b => ?_))
      · obtain ⟨j, a, b, c⟩ := h
        exact ⟨j, by omega, b, c⟩
      · by_cases e : j = k
        · rw [e]; exact q
        · exact h j (by omega) b
    have J : ∀ x4 : Int32, x4 = sc_pl P kn ka w r k → (wY_fieldsHold_58 post (wY_fieldsHold_4 post (nI w) (nI r) xT xL yW xC xG yV yD yR yA yF yO kk kb kp kf kn ki ka kg kh yb yw nu rs yt ys yc yl yn yv yo ym yf tv tt tg yp yh n) (nI w) (nI r) (nI (5 * r + k)) x4 xT xL yW xC xG yV yD yR yA yF yO kk kb kp kf kn ki ka kg kh yb yw nu rs yt ys yc yl yn yv yo ym yf tv tt tg yp yh) := by
      intro x4 hx
      rw [hx]
      unfold wY_fieldsHold_58
      rw [c5]
      rcases sc_pl_r (P := P) (kn := kn) (ka := ka) (w := w) r k h5w with e | ⟨f, f1, f2⟩
      · rw [e, sc_i hA, nI_clamp (n := I (5 * r + k)) (by omega)]
        refine br_t ba_m1lt ⟨v5, br_c (fun q => h0 ⟨k, Nat.le_refl _, by omega, Or.inl ⟨e, Or.inl q⟩⟩) (fun q => ⟨v5, vp_in_nI (by omega) (by decide), br_c (fun q2 => h0 ⟨k, Nat.le_refl _, by omega, Or.inl ⟨e, Or.inr ((he _ i1).mp q2)⟩⟩) (fun q2 => nm_r (nI_1 _) (NX (fun z => ?_)))⟩)⟩
        rcases z with ⟨_, z | z⟩ | ⟨f, f1, f2, _⟩
        · exact q z
        · exact q2 ((he _ i1).mpr z)
        · rw [e] at f2; exact (ba_em1 (by omega)).mp f2.symm
      · have i2 := sc_i20 hA (5 * w + f)
        rw [f2, ba_5, nI_add, nI_clamp (n := 5 * w + f) (by omega), sc_i hA, sc_i hA, ba_20, nI_add, nI_clamp (n := 20 * I (5 * w + f) + I (5 * r + k)) (by omega)]
        refine br_f (nI_pos (by omega)) ⟨vp_in_nI (by omega) (by decide), v5, vp_in_nI (by omega) (by decide), br_c (fun q => h0 ⟨k, Nat.le_refl _, by omega, Or.inr ⟨f, f1, f2, q⟩⟩) (fun q => nm_r (nI_1 _) (NX (fun z => ?_)))⟩
        rcases z with ⟨e, _⟩ | ⟨g, g1, g2, g3⟩
        · rw [f2] at e; exact (ba_em1 (by omega)).mp e
        · rw [f2] at g2
          have : f = g := ba_inj g2 (by omega) (by omega)
          rw [← this] at g3
          exact q g3
    refine And.intro vr ?_
    rw [e5]
    refine br_f (nI_ge (by omega) (by omega)) ⟨v5, ?_⟩
    rw [c5]
    refine yn_find hA w20 ?_
    by_cases z1 : 0 ≤ sc_find P kn w (kn (5 * r + k))
    · exact br_t z1 (J _ (by unfold sc_pl; rw [if_pos z1]))
    · refine br_f z1 ⟨v5, ?_⟩
      by_cases z2 : ka (5 * r + k) < 0
      · exact br_t z2 (J _ (by unfold sc_pl; rw [if_neg z1, if_pos z2]))
      · exact br_f z2 ⟨v5, yn_find hA w20 (J _ (by unfold sc_pl; rw [if_neg z1, if_neg z2]))⟩
theorem yh_main (hA : sc_A D B P I kk kb kp ki) (hS : sc_T T D B P I kn kh kd kg) (he : ∀ t, t < T → (yh t = 0 ↔ pa_B T D P I kh t)) (hu : ∀ k, k < 400 → yp k = 0 ∨ yp k = 1) {post : Int32 → Prop} {w r : Nat} (hw : w < T) (hr : r < T)
    (h0 : pa_pb D B P I kn ka kh kf (pa_B T D P I kh) (fun a b => yp (20 * a + b) = 0) w r → post 0) (h1 : ¬ pa_pb D B P I kn ka kh kf (pa_B T D P I kh) (fun a b => yp (20 * a + b) = 0) w r → post 1) : (wpY_holds post (xT, xL, yW, xC, xG, yV, yD, yR, yA, yF, yO, kk, kb, kp, kf, kn, ki, ka, kg, kh, yb, yw, nu, rs, yt, ys, yc, yl, yn, yv, yo, ym, yf, tv, tt, tg, yp, yh) (nI w) (nI r)) := by
  have hT := sc_T20 hS
  have w20 : w < 20 := by omega
  have r20 : r < 20 := by omega
  have h9 := sc_k9 hA w
  have h9r := sc_k9 hA r
  have h5 := sc_p5 hA w
  have h5r := sc_p5 hA r
  have vw : vp_in (nI w) 20 := vp_in_nI w20 (by decide)
  have vr : vp_in (nI r) 20 := vp_in_nI r20 (by decide)
  have K : kk (nI w).toNatClampNeg = nI (D w) := bg_ck hA w20 rfl
  refine And.intro vw ?_
  by_cases e8 : D w = 8
  · refine br_t (by rw [K, e8]; rfl) (Exists.intro (P w + 1) (yh_13 hA w20 r20 (P w) 0 _ (by omega) (by omega) (fun h => h0 ?_) (fun h => h1 (fun z => ?_))))
    · obtain ⟨j, _, j1, j2⟩ := h
      exact Or.inl ⟨e8, j, j1, j2⟩
    · rcases z with ⟨_, j, j1, j2⟩ | ⟨z, _⟩ | ⟨z, _⟩
      · exact h j (by omega) j1 j2
      · exact z e8
      · exact z e8
  refine br_f (by rw [K]; exact fun q => e8 ((ba_e8 (by omega)).mp q)) ⟨vr, ?_⟩
  by_cases r8 : D r = 8
  · refine br_t (by rw [bg_ck hA r20 r8]; rfl) (ys_bf hA w20 r20 ?_)
    rcases sc_bf_r (D := D) (B := B) (P := P) (I := I) (w := w) (r := r) h5r with ⟨hf, _⟩ | ⟨f, hf1, hf, _⟩
    · rw [hf]
      exact br_t ba_m1lt (h0 (Or.inr (Or.inl ⟨e8, r8, Or.inl hf⟩)))
    · rw [hf]
      have i1 := sc_i20 hA (5 * r + f)
      refine br_f (nI_pos (by omega)) ?_
      rw [ba_5, nI_add, nI_clamp (n := 5 * r + f) (by omega), sc_i hA, ba_20, nI_add, nI_clamp (n := 20 * w + I (5 * r + f)) (by omega)]
      refine ⟨vp_in_nI (by omega) (by decide), vp_in_nI (by omega) (by decide), br_c (fun q => h0 (Or.inr (Or.inl ⟨e8, r8, Or.inr ⟨f, hf1, hf, q⟩⟩))) (fun q => h1 (fun z => ?_))⟩
      rcases z with ⟨z, _⟩ | ⟨_, _, z | ⟨g, g1, g2, g3⟩⟩ | ⟨_, z, _⟩
      · exact e8 z
      · rw [hf] at z; exact (ba_em1 (by omega)).mp z
      · rw [hf] at g2
        have : f = g := ba_inj g2 (by omega) (by omega)
        rw [← this] at g3
        exact q g3
      · exact z r8
  refine br_f (by rw [bg_ck hA r20 rfl]; exact fun q => r8 ((ba_e8 (by omega)).mp q)) (ys_suits hA w20 r20 (fun su => br_f (by decide) ⟨vw, ?_⟩) (fun su => br_t rfl (h0 (Or.inr (Or.inr ⟨e8, r8, Or.inl su⟩)))))
  have no : ∀ {Q : Prop}, pa_pb D B P I kn ka kh kf (pa_B T D P I kh) (fun a b => yp (20 * a + b) = 0) w r → (pa_pc D B P I kn ka kh kf (pa_B T D P I kh) (fun a b => yp (20 * a + b) = 0) w r → Q) → Q := by
    intro Q z h
    rcases z with ⟨z, _⟩ | ⟨_, z, _⟩ | ⟨_, _, z | ⟨_, z⟩⟩
    · exact absurd z e8
    · exact absurd z r8
    · rw [su] at z; exact absurd z (by decide)
    · exact h z
  have yes : pa_pc D B P I kn ka kh kf (pa_B T D P I kh) (fun a b => yp (20 * a + b) = 0) w r → pa_pb D B P I kn ka kh kf (pa_B T D P I kh) (fun a b => yp (20 * a + b) = 0) w r := fun z => Or.inr (Or.inr ⟨e8, r8, Or.inr ⟨su, z⟩⟩)
  have sut := sc_su_t.mp su
  by_cases w7 : D w = 7
  · have r7 : D r = 7 := by omega
    have b1 := sc_b20 hA w
    have b2 := sc_b20 hA r
    refine br_t (by rw [K, w7]; rfl) ?_
    rw [nI_clamp (n := w) (by omega), nI_clamp (n := r) (by omega), sc_b hA, sc_b hA, ba_20, nI_add, nI_clamp (n := 20 * B w + B r) (by omega)]
    refine ⟨vw, vr, vp_in_nI (by omega) (by decide), ?_⟩
    rcases hu (20 * B w + B r) (by omega) with q | q
    · rw [q]
      exact ⟨rfl, h0 (yes (Or.inl ⟨r7, q⟩))⟩
    · rw [q]
      refine ⟨rfl, h1 (fun z => no z (fun z => ?_))⟩
      rcases z with ⟨_, z⟩ | ⟨z, _⟩ | ⟨z, _⟩
      · rw [q] at z; exact absurd z (by decide)
      · omega
      · omega
  refine br_f (by rw [K]; exact fun q => w7 ((ba_e7 (by omega)).mp q)) ⟨vw, ?_⟩
  by_cases w9 : D w = 9
  · have r9 : D r = 9 := by omega
    refine br_t (by rw [K, w9]; rfl) ?_
    unfold wpY_fieldsHold
    refine nm_r (e' := nI (5 * r + 0)) (by rw [ba_5]; rfl) (Exists.intro (P r + 1) (yh_4 hA hS he hw hr (P r) 0 _ (by omega) (by omega) (fun h => ⟨rfl, h0 (yes ?_)⟩) (fun h => ⟨rfl, h1 (fun z => no z (fun z => ?_))⟩)))
    · obtain ⟨j, _, j1, j2⟩ := h
      exact Or.inr (Or.inr ⟨r9, j, j1, j2⟩)
    · rcases z with ⟨z, _⟩ | ⟨z, _⟩ | ⟨_, j, j1, j2⟩
      · omega
      · omega
      · exact h j (by omega) j1 j2
  refine br_f (by rw [K]; exact fun q => w9 ((ba_e9 (by omega)).mp q)) ?_
  by_cases w5 : D w = 5
  · have r5 : D r = 5 := by omega
    refine Exists.intro (P w + 1) (yh_174 hA w20 r20 w5 (P w) 0 _ (by omega) (by omega) (fun h => h0 (yes (Or.inr (Or.inl ⟨r5, h.1, ?_⟩)))) (fun h => h1 (fun z => no z (fun z => ?_))))
    · obtain ⟨_, j, _, j1, j2⟩ := h
      exact ⟨j, j1, j2⟩
    · rcases z with ⟨z, _⟩ | ⟨_, z, j, j1, j2⟩ | ⟨z, _⟩
      · omega
      · exact h ⟨z, j, by omega, j1, j2⟩
      · omega
  · have J : post 1 := h1 (fun z => no z (fun z => by
      rcases z with ⟨z, _⟩ | ⟨z, _⟩ | ⟨z, _⟩ <;> omega))
    exact Exists.intro 1 (And.intro vw (br_c (fun _ => J) (fun _ => ⟨vw, br_f (by rw [K]; exact fun q => w5 ((ba_e5 (by omega)).mp q)) J⟩)))
end
end
section
section
variable {xT xL xC xG xV xA xF xD xN xS xK xI yW yV yD yR yA yF yO : Int32} {kk kb kp kn ki ka kh kd kf xb vt va ve xo xt xp xl xd xm xz xu xe xc xf kg yb yw yt ys yc yl yn yo ym yf tv tt tg yp yh : Nat → Int32} {nu rs vn yv : Nat → Int64}
variable {D B P I : Nat → Nat} {T : Nat}
/-! Y: types that are like -/
def li_k (D I : Nat → Nat) (kn ka kh kd yp : Nat → Int32) (t u k : Nat) : Prop :=
  (¬ D t = 8 → kn (5 * t + k) = kn (5 * u + k)) ∧ (¬ D t = 5 → ¬ yp (20 * I (5 * t + k) + I (5 * u + k)) = 0) ∧ (D t = 9 → ka (5 * t + k) = ka (5 * u + k) ∧ kh (5 * t + k) = kh (5 * u + k) ∧ kd (5 * t + k) = kd (5 * u + k))
theorem li_218 (hA : sc_A D B P I kk kb kp ki) (hS : sc_T T D B P I kn kh kd kg) {post J126 : Int32 → Prop} {t u k : Nat} (ht : t < 20) (hu : u < 20) (hk : k < 5) {x2 : Int32}
    (hJ : (D t = 9 → ka (5 * t + k) = ka (5 * u + k) ∧ kh (5 * t + k) = kh (5 * u + k) ∧ kd (5 * t + k) = kd (5 * u + k)) → J126 (nI (k + 1))) (h0 : ¬ (D t = 9 → ka (5 * t + k) = ka (5 * u + k) ∧ kh (5 * t + k) = kh (5 * u + k) ∧ kd (5 * t + k) = kd (5 * u + k)) → post 0) :
    (wY_isLike_218 post J126 (nI t) x2 (nI k) (nI (5 * t + k)) (nI (5 * u + k)) xT xL yW xC xG yV yD yR yA yF yO kk kb kp kf kn ki ka kg kh yb yw nu rs yt ys yc yl yn yv yo ym yf tv tt tg yp yh) := by
  have vt' : vp_in (nI t) 20 := vp_in_nI ht (by decide)
  have h9 := sc_k9 hA t
  have v4 : vp_in (nI (5 * t + k)) 100 := vp_in_nI (by omega) (by decide)
  have v5 : vp_in (nI (5 * u + k)) 100 := vp_in_nI (by omega) (by decide)
  have c4 : (nI (5 * t + k)).toNatClampNeg = 5 * t + k := nI_clamp (by omega)
  have c5 : (nI (5 * u + k)).toNatClampNeg = 5 * u + k := nI_clamp (by omega)
  have s4 := sc_h hS (5 * t + k)
  have s5 := sc_h hS (5 * u + k)
  unfold wY_isLike_218
  rw [c4, c5]
  refine ⟨vt', ?_⟩
  rw [bg_ck hA ht rfl]
  by_cases e9 : D t = 9
  · refine br_t (by rw [e9]; rfl) ⟨v4, v5, br_c (fun q1 => ⟨v4, v5, br_c (fun q2 => ⟨v4, br_c (fun q3 => nm_r (nI_1 k) (hJ (fun _ => ⟨q1, q2, ?_⟩))) (fun q3 => ⟨v4, v5, br_c (fun q4 => nm_r (nI_1 k) (hJ (fun _ => ⟨q1, q2, ?_⟩))) (fun q4 => h0 (fun h => q4 ?_))⟩)⟩) (fun q2 => h0 (fun h => q2 (h e9).2.1))⟩) (fun q1 => h0 (fun h => q1 (h e9).1))⟩
    · rcases s4 with ⟨a, b⟩ | ⟨a, b⟩
      · rcases s5 with ⟨c, d⟩ | ⟨c, d⟩
        · rw [b, d]
        · rw [← q2, q3] at c; exact absurd c (by decide)
      · rw [a] at q3; exact absurd q3 (by decide)
    · rcases s4 with ⟨a, b⟩ | ⟨a, b⟩
      · exact absurd a q3
      · rcases s5 with ⟨c, d⟩ | ⟨c, d⟩
        · rw [← q2] at c; exact absurd c q3
        · rw [b, d, q4]
    · have e := (h e9).2.2
      rcases s4 with ⟨a, b⟩ | ⟨a, b⟩
      · exact absurd a q3
      · rcases s5 with ⟨c, d⟩ | ⟨c, d⟩
        · rw [← q2] at c; exact absurd c q3
        · rw [← b, ← d, e]
  · exact br_f (fun q => e9 ((ba_e9 (by omega)).mp q)) (nm_r (nI_1 k) (hJ (fun q => absurd q e9)))
theorem li_180 (hA : sc_A D B P I kk kb kp ki) (hS : sc_T T D B P I kn kh kd kg) {post J126 : Int32 → Prop} {t u k : Nat} (ht : t < 20) (hu : u < 20) (hk : k < 5) {x2 : Int32}
    (hJ : (¬ D t = 5 → ¬ yp (20 * I (5 * t + k) + I (5 * u + k)) = 0) → (D t = 9 → ka (5 * t + k) = ka (5 * u + k) ∧ kh (5 * t + k) = kh (5 * u + k) ∧ kd (5 * t + k) = kd (5 * u + k)) → J126 (nI (k + 1))) (h0 : ¬ ((¬ D t = 5 → ¬ yp (20 * I (5 * t + k) + I (5 * u + k)) = 0) ∧ (D t = 9 → ka (5 * t + k) = ka (5 * u + k) ∧ kh (5 * t + k) = kh (5 * u + k) ∧ kd (5 * t + k) = kd (5 * u + k))) → post 0) :
    (wY_isLike_180 post J126 (nI t) x2 (nI k) (nI (5 * t + k)) (nI (5 * u + k)) xT xL yW xC xG yV yD yR yA yF yO kk kb kp kf kn ki ka kg kh yb yw nu rs yt ys yc yl yn yv yo ym yf tv tt tg yp yh) := by
  have vt' : vp_in (nI t) 20 := vp_in_nI ht (by decide)
  have h9 := sc_k9 hA t
  have v4 : vp_in (nI (5 * t + k)) 100 := vp_in_nI (by omega) (by decide)
  have v5 : vp_in (nI (5 * u + k)) 100 := vp_in_nI (by omega) (by decide)
  have c4 : (nI (5 * t + k)).toNatClampNeg = 5 * t + k := nI_clamp (by omega)
  have c5 : (nI (5 * u + k)).toNatClampNeg = 5 * u + k := nI_clamp (by omega)
  have i1 := sc_i20 hA (5 * t + k)
  have i2 := sc_i20 hA (5 * u + k)
  unfold wY_isLike_180
  rw [c4, c5, sc_i hA, sc_i hA, ba_20, nI_add, nI_clamp (n := 20 * I (5 * t + k) + I (5 * u + k)) (by omega)]
  refine ⟨vt', ?_⟩
  rw [bg_ck hA ht rfl]
  by_cases e5 : D t = 5
  · exact br_t (by rw [e5]; rfl) (li_218 hA hS ht hu hk (hJ (fun q => absurd e5 q)) (fun q => h0 (fun z => q z.2)))
  · exact br_f (fun q => e5 ((ba_e5 (by omega)).mp q)) ⟨v4, v5, vp_in_nI (by omega) (by decide), br_c (fun q => h0 (fun z => z.1 e5 q)) (fun q => li_218 hA hS ht hu hk (hJ (fun _ => q)) (fun y => h0 (fun z => y z.2)))⟩
theorem li_126 (hA : sc_A D B P I kk kb kp ki) (hS : sc_T T D B P I kn kh kd kg) {post : Int32 → Prop} {t u : Nat} (ht : t < 20) (hu : u < 20) : ∀ m k n : Nat, k + m = P t → m < n →
    ((∀ j, k ≤ j → j < P t → li_k D I kn ka kh kd yp t u j) → post 1) → ((∃ j, k ≤ j ∧ j < P t ∧ ¬ li_k D I kn ka kh kd yp t u j) → post 0) → (wY_isLike_126 post (nI t) (nI u) xT xL yW xC xG yV yD yR yA yF yO kk kb kp kf kn ki ka kg kh yb yw nu rs yt ys yc yl yn yv yo ym yf tv tt tg yp yh n (nI k)) := by
  intro m
  have h9 := sc_k9 hA t
  have h5 := sc_p5 hA t
  have vt' : vp_in (nI t) 20 := vp_in_nI ht (by decide)
  induction m with
  | zero =>
    intro k n hk hn h1 h0
    obtain ⟨n, rfl⟩ : ∃ n', n = n' + 1 := ⟨n - 1, by omega⟩
    exact And.intro vt' (br_t (by rw [bg_cp hA ht]; exact nI_le (by omega) (by omega)) (h1 (fun j a b => by omega)))
  | succ m ih =>
    intro k n hk hn h1 h0
    obtain ⟨n, rfl⟩ : ∃ n', n = n' + 1 := ⟨n - 1, by omega⟩
    have v4 : vp_in (nI (5 * t + k)) 100 := vp_in_nI (by omega) (by decide)
    have v5 : vp_in (nI (5 * u + k)) 100 := vp_in_nI (by omega) (by decide)
    have c4 : (nI (5 * t + k)).toNatClampNeg = 5 * t + k := nI_clamp (by omega)
    have c5 : (nI (5 * u + k)).toNatClampNeg = 5 * u + k := nI_clamp (by omega)
    have J : (¬ D t = 8 → kn (5 * t + k) = kn (5 * u + k)) → (wY_isLike_180 post (wY_isLike_126 post (nI t) (nI u) xT xL yW xC xG yV yD yR yA yF yO kk kb kp kf kn ki ka kg kh yb yw nu rs yt ys yc yl yn yv yo ym yf tv tt tg yp yh n) (nI t) (nI u) (nI k) (nI (5 * t + k)) (nI (5 * u + k)) xT xL yW xC xG yV yD yR yA yF yO kk kb kp kf kn ki ka kg kh yb yw nu rs yt ys yc yl yn yv yo ym yf tv tt tg yp yh) := by
      intro e
      refine li_180 hA hS ht hu (by omega) (fun q1 q2 => ih (k + 1) n (by omega) (by omega) (fun h => h1 (fun j a b => ?_)) (fun h => h0 ?_)) (fun q => h0 ⟨k, Nat.le_refl _, by omega, fun z => q z.2⟩)
      · by_cases ej : j = k
        · rw [ej]; exact ⟨e, q1, q2⟩
        · exact h j (by omega) b
      · obtain ⟨j, a, b, c⟩ := h
        exact ⟨j, by omega, b, c⟩
    refine And.intro vt' (br_f (by rw [bg_cp hA ht]; exact nI_ge (by omega) (by omega)) (nm_r (e' := nI (5 * t + k)) (by rw [ba_5, nI_add]) (nm_r (e' := nI (5 * u + k)) (by rw [ba_5, nI_add]) ⟨vt', ?_⟩)))
    rw [bg_ck hA ht rfl]
    by_cases e8 : D t = 8
    · exact br_t (by rw [e8]; rfl) (J (fun q => absurd e8 q))
    · refine br_f (fun q => e8 ((ba_e8 (by omega)).mp q)) ⟨v4, v5, ?_⟩
      rw [c4, c5]
      exact br_c (fun q => J (fun _ => q)) (fun q => h0 ⟨k, Nat.le_refl _, by omega, fun z => q (z.1 e8)⟩)
theorem li_main (hA : sc_A D B P I kk kb kp ki) (hS : sc_T T D B P I kn kh kd kg) (hr : ∀ k, k < 400 → yp k = 0 ∨ yp k = 1) {post : Int32 → Prop} {t u : Nat} (ht : t < 20) (hu : u < 20) (h0 : ¬ pa_lk D B P I kn ka kh kd kf (fun a b => ¬ yp (20 * a + b) = 0) t u → post 0) (h1 : ¬ ¬ pa_lk D B P I kn ka kh kd kf (fun a b => ¬ yp (20 * a + b) = 0) t u → post 1) : (wpY_isLike post (xT, xL, yW, xC, xG, yV, yD, yR, yA, yF, yO, kk, kb, kp, kf, kn, ki, ka, kg, kh, yb, yw, nu, rs, yt, ys, yc, yl, yn, yv, yo, ym, yf, tv, tt, tg, yp, yh) (nI t) (nI u)) := by
  have h9 := sc_k9 hA t
  have h9u := sc_k9 hA u
  have h5 := sc_p5 hA t
  have h5u := sc_p5 hA u
  have b1 := sc_b20 hA t
  have b2 := sc_b20 hA u
  have L : D t = D u → P t = P u → ¬ D t = 6 → ¬ D t = 7 → (D t = 5 → kf t = kf u) → ∃ n, (wY_isLike_126 post (nI t) (nI u) xT xL yW xC xG yV yD yR yA yF yO kk kb kp kf kn ki ka kg kh yb yw nu rs yt ys yc yl yn yv yo ym yf tv tt tg yp yh n 0) := by
    intro e1 e2 e6 e7 e5
    refine ⟨P t + 1, li_126 hA hS ht hu (P t) 0 _ (by omega) (by omega) (fun h => h1 (fun z => z ⟨e1, e2, fun q => absurd q e6, fun q => absurd q e7, e5, fun _ _ k hk => h k (by omega) hk⟩)) (fun h => h0 (fun z => ?_))⟩
    obtain ⟨j, a, b, c⟩ := h
    exact c (z.2.2.2.2.2 e6 e7 j b)
  simp (disch := omega) only [wpY_isLike, vp_in_nI, nI_clamp, sc_k hA, sc_b hA, sc_p hA, nI_eq, ba_e6, ba_e7, ba_e5, ba_20, nI_add, true_and]
  refine br_c (fun q1 => br_c (fun q2 => br_c (fun e6 => br_c (fun q => ?_) (fun q => ?_)) (fun e6 => br_c (fun e7 => ?_) (fun e7 => br_c (fun e5 => br_c (fun q => ?_) (fun q => ?_)) (fun e5 => ?_)))) (fun q2 => ?_)) (fun q1 => ?_)
  · exact h1 (fun z => z ⟨q1, q2, fun _ => q, fun e => by omega, fun e => by omega, fun e => absurd e6 e⟩)
  · exact h0 (fun z => q (z.2.2.1 e6))
  · rcases hr (20 * B t + B u) (by omega) with q | q
    · rw [q]
      exact ⟨rfl, h0 (fun z => z.2.2.2.1 e7 q)⟩
    · rw [q]
      exact ⟨rfl, h1 (fun z => z ⟨q1, q2, fun e => absurd e e6, fun _ => by show ¬ yp (20 * B t + B u) = 0; rw [q]; decide, fun e => by omega, fun _ e => absurd e7 e⟩)⟩
  · exact L q1 q2 e6 e7 (fun _ => q)
  · exact h0 (fun z => q (z.2.2.2.2.1 e5))
  · exact L q1 q2 e6 e7 (fun e => absurd e e5)
  · exact h0 (fun z => q2 z.2.1)
  · exact h0 (fun z => q1 z.1)
end
end
section
section
variable {xT xL xC xG xV xA xF xD xN xS xK xI yW yV yD yR yA yF yO : Int32} {kk kb kp kn ki ka kh kd kf xb vt va ve xo xt xp xl xd xm xz xu xe xc xf kg yb yw yt ys yc yl yn yo ym yf tv tt tg yp yh : Nat → Int32} {nu rs vn yv : Nat → Int64}
variable {D B P I bb : Nat → Nat} {T L C G : Nat}
/-! Y's crossing out -/
def cr_S (T : Nat) (U : Nat → Nat → Prop) (yp : Nat → Int32) : Prop := (∀ k, k < 400 → yp k = 0 ∨ yp k = 1) ∧ (∀ a b, a < T → b < T → yp (20 * a + b) = 0 → U a b)
theorem cr_43 (hT : T ≤ 20) {x1 : Int32} {Bd : (Nat → Int32) → Nat → Nat → Prop} {U : Nat → Nat → Prop} (hst : ∀ (yp : Nat → Int32) (t u : Nat) (post : Int32 → Prop), (∀ k, k < 400 → yp k = 0 ∨ yp k = 1) → t < T → u < T → (Bd yp t u → post 0) → (¬ Bd yp t u → post 1) → (x1 = 0 → (wpY_holds post (nI T, xL, yW, xC, xG, yV, yD, yR, yA, yF, yO, kk, kb, kp, kf, kn, ki, ka, kg, kh, yb, yw, nu, rs, yt, ys, yc, yl, yn, yv, yo, ym, yf, tv, tt, tg, yp, yh) (nI t) (nI u))) ∧ (¬ x1 = 0 → (wpY_isLike post (nI T, xL, yW, xC, xG, yV, yD, yR, yA, yF, yO, kk, kb, kp, kf, kn, ki, ka, kg, kh, yb, yw, nu, rs, yt, ys, yc, yl, yn, yv, yo, ym, yf, tv, tt, tg, yp, yh) (nI t) (nI u))))
    (hU : ∀ (yp : Nat → Int32) (t u : Nat), t < T → u < T → (∀ a b, a < T → b < T → yp (20 * a + b) = 0 → U a b) → Bd yp t u → U t u) {post : SY → Prop} {J24 J32 : _} {yp0 : Nat → Int32} {t : Nat} (ht : t < T)
    (K : ∀ (x2 : Int32) (yp : Nat → Int32), cr_S T U yp → (∀ k, k < 400 → yp k = 1 → yp0 k = 1) → ((x2 = 0 ∧ yp = yp0 ∧ ∀ a b, a < t + 1 → b < T → Bd yp a b → yp (20 * a + b) = 0) ∨ (x2 = 1 ∧ ∃ k, k < 400 ∧ yp0 k = 1 ∧ ¬ yp k = 1)) → J32 x2 (nI (t + 1)) kk kb kp kf kn ki ka kg kh yb yw nu rs yt ys yc yl yn yv yo ym yf tv tt tg yp yh) :
    ∀ (m u n : Nat) (x2 : Int32) (yp : Nat → Int32), u + m = T → m < n → cr_S T U yp → (∀ k, k < 400 → yp k = 1 → yp0 k = 1) → ((x2 = 0 ∧ yp = yp0 ∧ (∀ a b, a < t → b < T → Bd yp a b → yp (20 * a + b) = 0) ∧ ∀ b, b < u → Bd yp t b → yp (20 * t + b) = 0) ∨ (x2 = 1 ∧ ∃ k, k < 400 ∧ yp0 k = 1 ∧ ¬ yp k = 1)) → (wY_cross_43 post J24 J32 x1 (nI t) (nI T) xL yW xC xG yV yD yR yA yF yO n x2 (nI u) kk kb kp kf kn ki ka kg kh yb yw nu rs yt ys yc yl yn yv yo ym yf tv tt tg yp yh) := by
  intro m
  induction m with
  | zero =>
    intro u n x2 yp hu hn hs hm hx
    obtain ⟨n, rfl⟩ : ∃ n', n = n' + 1 := ⟨n - 1, by omega⟩
    obtain rfl : u = T := by omega
    refine br_t (Int32.le_refl _) (nm_r (nI_1 t) (K x2 yp hs hm (hx.imp (fun z => ⟨z.1, z.2.1, fun a b ha hb => ?_⟩) id)))
    by_cases e : a = t
    · rw [e]; exact z.2.2.2 b hb
    · exact z.2.2.1 a b (by omega) hb
  | succ m ih =>
    intro u n x2 yp hu hn hs hm hx
    obtain ⟨n, rfl⟩ : ∃ n', n = n' + 1 := ⟨n - 1, by omega⟩
    have vi : vp_in (nI (20 * t + u)) 400 := vp_in_nI (by omega) (by decide)
    have ci : (nI (20 * t + u)).toNatClampNeg = 20 * t + u := nI_clamp (by omega)
    have ei : 20 * nI t + nI u = nI (20 * t + u) := by rw [ba_20, nI_add]
    have NX : (Bd yp t u → yp (20 * t + u) = 0) → (wY_cross_43 post J24 J32 x1 (nI t) (nI T) xL yW xC xG yV yD yR yA yF yO n x2 (nI (u + 1)) kk kb kp kf kn ki ka kg kh yb yw nu rs yt ys yc yl yn yv yo ym yf tv tt tg yp yh) := by
      intro h
      refine ih (u + 1) n x2 yp (by omega) (by omega) hs hm (hx.imp (fun z => ⟨z.1, z.2.1, z.2.2.1, fun b hb => ?_⟩) id)
      by_cases e : b = u
      · rw [e]; exact h
      · exact z.2.2.2 b (by omega)
    refine br_f (nI_ge (by omega) (by omega)) ?_
    rw [ei, ci]
    refine ⟨vi, br_c (fun q => nm_r (nI_1 u) (NX (fun _ => q))) (fun q => hst yp t u _ hs.1 ht (by omega) (fun h => br_t rfl ?_) (fun h => br_f (by decide) (nm_r (nI_1 u) (NX (fun z => absurd z h)))))⟩
    have y1 : yp (20 * t + u) = 1 := (hs.1 _ (by omega)).resolve_left q
    rw [ei]
    refine ⟨vi, nm_r (e' := upd yp (20 * t + u) 0) (by rw [ci, ba_vz0]) (nm_r (nI_1 u) (ih (u + 1) n 1 (upd yp (20 * t + u) 0) (by omega) (by omega) ⟨fun k hk => ?_, fun a b ha hb z => ?_⟩ (fun k hk z => ?_) (Or.inr ⟨rfl, 20 * t + u, by omega, hm _ (by omega) y1, by rw [ba_us]; decide⟩)))⟩
    · by_cases e : k = 20 * t + u
      · rw [e, ba_us]; exact Or.inl rfl
      · rw [ba_un e]; exact hs.1 k hk
    · by_cases e : 20 * a + b = 20 * t + u
      · have e1 : a = t := by omega
        have e2 : b = u := by omega
        rw [e1, e2]
        exact hU yp t u ht (by omega) hs.2 h
      · rw [ba_un e] at z; exact hs.2 a b ha hb z
    · by_cases e : k = 20 * t + u
      · rw [e, ba_us] at z; exact absurd z (by decide)
      · rw [ba_un e] at z; exact hm k hk z
theorem cr_32 (hT : T ≤ 20) {x1 : Int32} {Bd : (Nat → Int32) → Nat → Nat → Prop} {U : Nat → Nat → Prop} (hst : ∀ (yp : Nat → Int32) (t u : Nat) (post : Int32 → Prop), (∀ k, k < 400 → yp k = 0 ∨ yp k = 1) → t < T → u < T → (Bd yp t u → post 0) → (¬ Bd yp t u → post 1) → (x1 = 0 → (wpY_holds post (nI T, xL, yW, xC, xG, yV, yD, yR, yA, yF, yO, kk, kb, kp, kf, kn, ki, ka, kg, kh, yb, yw, nu, rs, yt, ys, yc, yl, yn, yv, yo, ym, yf, tv, tt, tg, yp, yh) (nI t) (nI u))) ∧ (¬ x1 = 0 → (wpY_isLike post (nI T, xL, yW, xC, xG, yV, yD, yR, yA, yF, yO, kk, kb, kp, kf, kn, ki, ka, kg, kh, yb, yw, nu, rs, yt, ys, yc, yl, yn, yv, yo, ym, yf, tv, tt, tg, yp, yh) (nI t) (nI u))))
    (hU : ∀ (yp : Nat → Int32) (t u : Nat), t < T → u < T → (∀ a b, a < T → b < T → yp (20 * a + b) = 0 → U a b) → Bd yp t u → U t u) {post : SY → Prop} {J24 : _} {yp0 : Nat → Int32}
    (K : ∀ (x2 : Int32) (yp : Nat → Int32), cr_S T U yp → (∀ k, k < 400 → yp k = 1 → yp0 k = 1) → ((x2 = 0 ∧ yp = yp0 ∧ ∀ a b, a < T → b < T → Bd yp a b → yp (20 * a + b) = 0) ∨ (x2 = 1 ∧ ∃ k, k < 400 ∧ yp0 k = 1 ∧ ¬ yp k = 1)) → J24 x2 kk kb kp kf kn ki ka kg kh yb yw nu rs yt ys yc yl yn yv yo ym yf tv tt tg yp yh) :
    ∀ (m t n : Nat) (x2 : Int32) (yp : Nat → Int32), t + m = T → m < n → cr_S T U yp → (∀ k, k < 400 → yp k = 1 → yp0 k = 1) → ((x2 = 0 ∧ yp = yp0 ∧ ∀ a b, a < t → b < T → Bd yp a b → yp (20 * a + b) = 0) ∨ (x2 = 1 ∧ ∃ k, k < 400 ∧ yp0 k = 1 ∧ ¬ yp k = 1)) → (wY_cross_32 post J24 x1 (nI T) xL yW xC xG yV yD yR yA yF yO n x2 (nI t) kk kb kp kf kn ki ka kg kh yb yw nu rs yt ys yc yl yn yv yo ym yf tv tt tg yp yh) := by
  intro m
  induction m with
  | zero =>
    intro t n x2 yp hu hn hs hm hx
    obtain ⟨n, rfl⟩ : ∃ n', n = n' + 1 := ⟨n - 1, by omega⟩
    obtain rfl : t = T := by omega
    exact br_t (Int32.le_refl _) (K x2 yp hs hm hx)
  | succ m ih =>
    intro t n x2 yp hu hn hs hm hx
    obtain ⟨n, rfl⟩ : ∃ n', n = n' + 1 := ⟨n - 1, by omega⟩
    refine br_f (nI_ge (by omega) (by omega)) (Exists.intro (T + 1) (cr_43 hT hst hU (by omega) (fun x2 yp hs hm hx => ih (t + 1) n x2 yp (by omega) (by omega) hs hm hx) T 0 _ x2 yp (by omega) (by omega) hs hm (hx.imp (fun z => ⟨z.1, z.2.1, z.2.2, fun b hb => by omega⟩) id)))
theorem cr_24 (hT : T ≤ 20) {x1 : Int32} {Bd : (Nat → Int32) → Nat → Nat → Prop} {U : Nat → Nat → Prop} (hst : ∀ (yp : Nat → Int32) (t u : Nat) (post : Int32 → Prop), (∀ k, k < 400 → yp k = 0 ∨ yp k = 1) → t < T → u < T → (Bd yp t u → post 0) → (¬ Bd yp t u → post 1) → (x1 = 0 → (wpY_holds post (nI T, xL, yW, xC, xG, yV, yD, yR, yA, yF, yO, kk, kb, kp, kf, kn, ki, ka, kg, kh, yb, yw, nu, rs, yt, ys, yc, yl, yn, yv, yo, ym, yf, tv, tt, tg, yp, yh) (nI t) (nI u))) ∧ (¬ x1 = 0 → (wpY_isLike post (nI T, xL, yW, xC, xG, yV, yD, yR, yA, yF, yO, kk, kb, kp, kf, kn, ki, ka, kg, kh, yb, yw, nu, rs, yt, ys, yc, yl, yn, yv, yo, ym, yf, tv, tt, tg, yp, yh) (nI t) (nI u))))
    (hU : ∀ (yp : Nat → Int32) (t u : Nat), t < T → u < T → (∀ a b, a < T → b < T → yp (20 * a + b) = 0 → U a b) → Bd yp t u → U t u) {post : SY → Prop}
    (K : ∀ yp : Nat → Int32, cr_S T U yp → (∀ a b, a < T → b < T → Bd yp a b → yp (20 * a + b) = 0) → post (nI T, xL, yW, xC, xG, yV, yD, yR, yA, yF, yO, kk, kb, kp, kf, kn, ki, ka, kg, kh, yb, yw, nu, rs, yt, ys, yc, yl, yn, yv, yo, ym, yf, tv, tt, tg, yp, yh)) :
    ∀ (m n : Nat) (yp : Nat → Int32), ct_z yp 1 400 < m → m + 1 < n → cr_S T U yp → (wY_cross_24 post x1 (nI T) xL yW xC xG yV yD yR yA yF yO n 1 kk kb kp kf kn ki ka kg kh yb yw nu rs yt ys yc yl yn yv yo ym yf tv tt tg yp yh) := by
  intro m
  induction m with
  | zero => intro n yp h; omega
  | succ m ih =>
    intro n yp0 hm hn hs
    obtain ⟨n, rfl⟩ : ∃ n', n = n' + 1 := ⟨n - 1, by omega⟩
    refine br_f (by decide) (Exists.intro (T + 1) (cr_32 hT hst hU (yp0 := yp0) (fun x2 yp hs1 hm1 hx1 => ?_) T 0 _ 0 yp0 (by omega) (by omega) hs (fun k _ z => z) (Or.inl ⟨rfl, rfl, fun a b ha => by omega⟩)))
    rcases hx1 with ⟨e, _, cl⟩ | ⟨e, k, t1, t2, t3⟩
    · rw [e]
      obtain ⟨n, rfl⟩ : ∃ n', n = n' + 1 := ⟨n - 1, by omega⟩
      exact br_t rfl (K yp hs1 cl)
    · rw [e]
      exact ih n yp (by have := ct_zlt (a := yp0) (a' := yp) (v := 1) (n := 400) hm1 ⟨k, t1, t2, t3⟩; omega) (by omega) hs1
theorem cr_2 {x1 : Int32} {post : SY → Prop} : ∀ (m i n : Nat) (yp : Nat → Int32), i + m = 400 → m < n → (∀ k, k < i → yp k = 1) →
    (∀ yp : Nat → Int32, (∀ k, k < 400 → yp k = 1) → ∃ n, (wY_cross_24 post x1 xT xL yW xC xG yV yD yR yA yF yO n 1 kk kb kp kf kn ki ka kg kh yb yw nu rs yt ys yc yl yn yv yo ym yf tv tt tg yp yh)) → (wY_cross_2 post x1 xT xL yW xC xG yV yD yR yA yF yO n (nI i) kk kb kp kf kn ki ka kg kh yb yw nu rs yt ys yc yl yn yv yo ym yf tv tt tg yp yh) := by
  intro m
  induction m with
  | zero =>
    intro i n yp hi hn h K
    obtain ⟨n, rfl⟩ : ∃ n', n = n' + 1 := ⟨n - 1, by omega⟩
    exact br_t ((ba_ge400 (by omega)).mpr (by omega)) (K yp (fun k hk => h k (by omega)))
  | succ m ih =>
    intro i n yp hi hn h K
    obtain ⟨n, rfl⟩ : ∃ n', n = n' + 1 := ⟨n - 1, by omega⟩
    refine br_f (fun q => by have := (ba_ge400 (by omega)).mp q; omega) ⟨vp_in_nI (by omega) (by decide), nm_r (e' := upd yp i 1) (by rw [nI_clamp (by omega), ba_vz1]) (nm_r (nI_1 i) (ih (i + 1) n _ (by omega) (by omega) (fun j hj => ?_) K))⟩
    by_cases e : j = i
    · rw [e, ba_us]
    · rw [ba_un e]; exact h j (by omega)
theorem cr_main (hT : T ≤ 20) {x1 : Int32} {Bd : (Nat → Int32) → Nat → Nat → Prop} {U : Nat → Nat → Prop} (hst : ∀ (yp : Nat → Int32) (t u : Nat) (post : Int32 → Prop), (∀ k, k < 400 → yp k = 0 ∨ yp k = 1) → t < T → u < T → (Bd yp t u → post 0) → (¬ Bd yp t u → post 1) → (x1 = 0 → (wpY_holds post (nI T, xL, yW, xC, xG, yV, yD, yR, yA, yF, yO, kk, kb, kp, kf, kn, ki, ka, kg, kh, yb, yw, nu, rs, yt, ys, yc, yl, yn, yv, yo, ym, yf, tv, tt, tg, yp, yh) (nI t) (nI u))) ∧ (¬ x1 = 0 → (wpY_isLike post (nI T, xL, yW, xC, xG, yV, yD, yR, yA, yF, yO, kk, kb, kp, kf, kn, ki, ka, kg, kh, yb, yw, nu, rs, yt, ys, yc, yl, yn, yv, yo, ym, yf, tv, tt, tg, yp, yh) (nI t) (nI u))))
    (hU : ∀ (yp : Nat → Int32) (t u : Nat), t < T → u < T → (∀ a b, a < T → b < T → yp (20 * a + b) = 0 → U a b) → Bd yp t u → U t u) {post : SY → Prop}
    (K : ∀ yp : Nat → Int32, cr_S T U yp → (∀ a b, a < T → b < T → Bd yp a b → yp (20 * a + b) = 0) → post (nI T, xL, yW, xC, xG, yV, yD, yR, yA, yF, yO, kk, kb, kp, kf, kn, ki, ka, kg, kh, yb, yw, nu, rs, yt, ys, yc, yl, yn, yv, yo, ym, yf, tv, tt, tg, yp, yh)) : (wpY_cross post (nI T, xL, yW, xC, xG, yV, yD, yR, yA, yF, yO, kk, kb, kp, kf, kn, ki, ka, kg, kh, yb, yw, nu, rs, yt, ys, yc, yl, yn, yv, yo, ym, yf, tv, tt, tg, yp, yh) x1) := by
  refine Exists.intro 401 (cr_2 400 0 _ yp (by omega) (by omega) (fun j hj => by omega) (fun yp h => Exists.intro 403 (cr_24 hT hst hU K 401 403 yp ?_ (by omega) ⟨fun k hk => Or.inr (h k hk), fun a b ha hb z => by rw [h _ (by omega)] at z; exact absurd z (by decide)⟩)))
  have := ct_n (q := fun i => decide (yp i = 1)) 400
  show pa_ct (fun i => decide (yp i = 1)) 400 < 401
  omega
/-- safe: what is crossed out are the pairs that are not safe -/
theorem cr_safe (hA : sc_A D B P I kk kb kp ki) (hS : sc_T T D B P I kn kh kd kg) (he : ∀ t, t < T → (yh t = 0 ↔ pa_B T D P I kh t)) {post : SY → Prop}
    (K : ∀ yp : Nat → Int32, (∀ w r, w < T → r < T → (yp (20 * w + r) = 0 ↔ pa_U T D B P I kn ka kh kf w r)) → post (nI T, xL, yW, xC, xG, yV, yD, yR, yA, yF, yO, kk, kb, kp, kf, kn, ki, ka, kg, kh, yb, yw, nu, rs, yt, ys, yc, yl, yn, yv, yo, ym, yf, tv, tt, tg, yp, yh)) : (wpY_cross post (nI T, xL, yW, xC, xG, yV, yD, yR, yA, yF, yO, kk, kb, kp, kf, kn, ki, ka, kg, kh, yb, yw, nu, rs, yt, ys, yc, yl, yn, yv, yo, ym, yf, tv, tt, tg, yp, yh) 0) := by
  refine cr_main (sc_T20 hS) (Bd := fun yp => pa_pb D B P I kn ka kh kf (pa_B T D P I kh) (fun a b => yp (20 * a + b) = 0)) (U := pa_U T D B P I kn ka kh kf) (fun yp t u post hr ht hu h0 h1 => br_t rfl (yh_main hA hS he hr ht hu h0 h1)) (fun yp t u ht hu h hb => pp_cl ht hu (cp_mono hS ht hu h hb)) (fun yp hs hc => K yp (fun w r hw hr => ⟨hs.2 w r hw hr, fun h => h (fun a b => yp (20 * a + b) = 0) hc⟩))
/-- same -/
theorem cr_same (hA : sc_A D B P I kk kb kp ki) (hS : sc_T T D B P I kn kh kd kg) {post : SY → Prop}
    (K : ∀ yp : Nat → Int32, (∀ t u, t < T → u < T → (¬ yp (20 * t + u) = 0 ↔ pa_S T D B P I kn ka kh kd kf t u)) → post (nI T, xL, yW, xC, xG, yV, yD, yR, yA, yF, yO, kk, kb, kp, kf, kn, ki, ka, kg, kh, yb, yw, nu, rs, yt, ys, yc, yl, yn, yv, yo, ym, yf, tv, tt, tg, yp, yh)) : (wpY_cross post (nI T, xL, yW, xC, xG, yV, yD, yR, yA, yF, yO, kk, kb, kp, kf, kn, ki, ka, kg, kh, yb, yw, nu, rs, yt, ys, yc, yl, yn, yv, yo, ym, yf, tv, tt, tg, yp, yh) 1) := by
  have hT := sc_T20 hS
  refine cr_main hT (Bd := fun yp t u => ¬ pa_lk D B P I kn ka kh kd kf (fun a b => ¬ yp (20 * a + b) = 0) t u) (U := fun a b => ¬ pa_S T D B P I kn ka kh kd kf a b) (fun yp t u post hr ht hu h0 h1 => br_f (by decide) (li_main hA hS hr (by omega) (by omega) h0 h1)) (fun yp t u ht hu h hb z => hb (lk_monoT hS ht (fun a b ha hb hab q => h a b ha hb q hab) (lk_un ht hu z))) (fun yp hs hc => K yp (fun t u ht hu => ⟨fun q => ?_, fun h q => hs.2 t u ht hu q h⟩))
  refine ⟨fun a b => a < T ∧ b < T ∧ ¬ yp (20 * a + b) = 0, fun a b ha hb hab => ?_, ht, hu, q⟩
  have := Classical.byContradiction fun z => hab.2.2 (hc a b ha hb z)
  exact lk_monoT hS ha (fun x y hx hy e => ⟨hx, hy, e⟩) this
/-! how many are different -/
theorem df_22 (hT : T ≤ 20) {post : Int32 → SY → Prop} {J9 : Int32 → Int32 → Prop} {x1 : Int32} {t : Nat} (ht : t < 20)
    (K1 : (∀ u, u < t → yp (20 * u + t) = 0) → J9 (x1 + 1) (nI (t + 1))) (K0 : ¬ (∀ u, u < t → yp (20 * u + t) = 0) → J9 x1 (nI (t + 1))) :
    ∀ (m u n : Nat) (x3 : Int32), u + m = t → m < n → ((x3 = 1 ∧ ∀ v, v < u → yp (20 * v + t) = 0) ∨ (x3 = 0 ∧ ¬ ∀ v, v < t → yp (20 * v + t) = 0)) → (wY_different_22 post J9 x1 (nI t) xT xL yW xC xG yV yD yR yA yF yO kk kb kp kf kn ki ka kg kh yb yw nu rs yt ys yc yl yn yv yo ym yf tv tt tg yp yh n x3 (nI u)) := by
  intro m
  induction m with
  | zero =>
    intro u n x3 hu hn hx
    obtain ⟨n, rfl⟩ : ∃ n', n = n' + 1 := ⟨n - 1, by omega⟩
    obtain rfl : u = t := by omega
    refine br_t (Int32.le_refl _) ?_
    rcases hx with ⟨e, h⟩ | ⟨e, h⟩
    · exact br_f (by rw [e]; decide) (nm_e (nm_r (nI_1 u) (K1 h)))
    · exact br_t e (nm_r (nI_1 u) (K0 h))
  | succ m ih =>
    intro u n x3 hu hn hx
    obtain ⟨n, rfl⟩ : ∃ n', n = n' + 1 := ⟨n - 1, by omega⟩
    refine br_f (nI_ge (by omega) (by omega)) ?_
    rcases hx with ⟨e, h⟩ | ⟨e, h⟩
    · refine br_f (by rw [e]; decide) ?_
      rw [ba_20, nI_add, nI_clamp (n := 20 * u + t) (by omega)]
      refine ⟨vp_in_nI (by omega) (by decide), br_c (fun q => nm_r (nI_1 u) (ih (u + 1) n 1 (by omega) (by omega) (Or.inl ⟨rfl, fun v hv => ?_⟩))) (fun q => nm_r (nI_1 u) (ih (u + 1) n 0 (by omega) (by omega) (Or.inr ⟨rfl, fun z => q (z u (by omega))⟩)))⟩
      by_cases ev : v = u
      · rw [ev]; exact q
      · exact h v (by omega)
    · exact br_t e (nm_r (nI_1 u) (ih (u + 1) n 0 (by omega) (by omega) (Or.inr ⟨rfl, h⟩)))
theorem df_9 (hT : T ≤ 20) {post : Int32 → SY → Prop} {q : Nat → Bool} (hq : ∀ t, t < T → (q t = true ↔ ∀ u, u < t → yp (20 * u + t) = 0)) (K : post (nI (pa_ct q T)) (nI T, xL, yW, xC, xG, yV, yD, yR, yA, yF, yO, kk, kb, kp, kf, kn, ki, ka, kg, kh, yb, yw, nu, rs, yt, ys, yc, yl, yn, yv, yo, ym, yf, tv, tt, tg, yp, yh)) :
    ∀ (m t n : Nat), t + m = T → m < n → (wY_different_9 post (nI T) xL yW xC xG yV yD yR yA yF yO kk kb kp kf kn ki ka kg kh yb yw nu rs yt ys yc yl yn yv yo ym yf tv tt tg yp yh n (nI (pa_ct q t)) (nI t)) := by
  intro m
  induction m with
  | zero =>
    intro t n ht hn
    obtain ⟨n, rfl⟩ : ∃ n', n = n' + 1 := ⟨n - 1, by omega⟩
    obtain rfl : t = T := by omega
    exact br_t (Int32.le_refl _) K
  | succ m ih =>
    intro t n ht hn
    obtain ⟨n, rfl⟩ : ∃ n', n = n' + 1 := ⟨n - 1, by omega⟩
    refine br_f (nI_ge (by omega) (by omega)) (Exists.intro (t + 1) (df_22 hT (by omega) (fun h => ?_) (fun h => ?_) t 0 _ 1 (by omega) (by omega) (Or.inl ⟨rfl, fun v hv => by omega⟩)))
    · have e : pa_ct q (t + 1) = pa_ct q t + 1 := by
        show pa_ct q t + (if q t = true then 1 else 0) = _
        rw [if_pos ((hq t (by omega)).mpr h)]
      have := ih (t + 1) n (by omega) (by omega)
      rw [e] at this
      rw [nI_1]
      exact this
    · have e : pa_ct q (t + 1) = pa_ct q t := by
        show pa_ct q t + (if q t = true then 1 else 0) = _
        rw [if_neg (fun z => h ((hq t (by omega)).mp z))]
        rfl
      have := ih (t + 1) n (by omega) (by omega)
      rw [e] at this
      exact this
/-! the three calls -/
theorem sm_safe {k : Nat} (F : re_F T L C G D B P I bb xK xI kk kb kp kn ki ka kh kd kf kg xb yb xz xu xc) (v1 v2 : Int32) : wpX_safe (fun r u' => wpY_safe (fun r' v' => r' = r ∧ i_Rel (k + 7) u' v') (nI T, nI L, yW, nI C, nI G, yV, yD, yR, yA, yF, yO, kk, kb, kp, kf, kn, ki, ka, kg, kh, yb, yw, nu, rs, yt, ys, yc, yl, yn, yv, yo, ym, yf, tv, tt, tg, yp, yh) v1 v2) (nI T, nI L, nI C, nI G, xV, xA, xF, xD, xN, xS, xK, xI, kk, kb, kp, kn, ki, ka, kh, kd, kf, xb, nu, rs, vt, vn, va, ve, xo, xt, xp, xl, xd, xm, xz, xu, xe, xc, xf) v1 v2 := by
  have F' := F
  obtain ⟨hA, hS, ⟨hL, hC, hG⟩, hB, hpl, hkn⟩ := F'
  have hT := sc_T20 hS
  unfold wpX_safe
  rcases sm_ix v1 (n := T) (by omega) with h | ⟨w, hw, rfl⟩
  · refine xf_isType_n h (br_t rfl ?_)
    unfold wpY_safe
    exact yf_isT_n hT h (br_t rfl ⟨rfl, re_in F⟩)
  rcases sm_ix v2 (n := T) (by omega) with h | ⟨z, hz, rfl⟩
  · refine xf_isType_y hT hw (br_f (by decide) (xf_isType_n h (br_t rfl ?_)))
    unfold wpY_safe
    exact yf_isT_y hT hw (br_f (by decide) (yf_isT_n hT h (br_t rfl ⟨rfl, re_in F⟩)))
  refine xf_isType_y hT hw (br_f (by decide) (xf_isType_y hT hz (br_f (by decide) (kn_main hA hS hpl hkn (fun xI xz xu xe xc xf hpl1 hk1 => ?_)))))
  have F1 : re_F T L C G D B P I bb 1 xI kk kb kp kn ki ka kh kd kf kg xb yb xz xu xc := ⟨hA, hS, ⟨hL, hC, hG⟩, hB, hpl1, Or.inr ⟨rfl, hk1⟩⟩
  have ei : 20 * nI w + nI z = nI (20 * w + z) := by rw [ba_20, nI_add]
  have vi : vp_in (nI (20 * w + z)) 400 := vp_in_nI (by omega) (by decide)
  have ci : (nI (20 * w + z)).toNatClampNeg = 20 * w + z := nI_clamp (by omega)
  have Y : ∀ post : Int32 → SY → Prop, (∀ yh yp : Nat → Int32, (yp (20 * w + z) = 0 ↔ pa_U T D B P I kn ka kh kf w z) → ((yp (20 * w + z) = 0 → post 0 (nI T, nI L, yW, nI C, nI G, yV, yD, yR, yA, yF, yO, kk, kb, kp, kf, kn, ki, ka, kg, kh, yb, yw, nu, rs, yt, ys, yc, yl, yn, yv, yo, ym, yf, tv, tt, tg, yp, yh)) ∧ (¬ yp (20 * w + z) = 0 → post 1 (nI T, nI L, yW, nI C, nI G, yV, yD, yR, yA, yF, yO, kk, kb, kp, kf, kn, ki, ka, kg, kh, yb, yw, nu, rs, yt, ys, yc, yl, yn, yv, yo, ym, yf, tv, tt, tg, yp, yh)))) → wpY_safe post (nI T, nI L, yW, nI C, nI G, yV, yD, yR, yA, yF, yO, kk, kb, kp, kf, kn, ki, ka, kg, kh, yb, yw, nu, rs, yt, ys, yc, yl, yn, yv, yo, ym, yf, tv, tt, tg, yp, yh) (nI w) (nI z) := by
    intro post h
    unfold wpY_safe
    refine yf_isT_y hT hw (br_f (by decide) (yf_isT_y hT hz (br_f (by decide) (yw_main hA hS (fun yh he => cr_safe hA hS he (fun yp hp => ?_))))))
    show vp_in ((20 * nI w) + nI z) 400 ∧ _
    rw [ei, ci]
    exact ⟨vi, h yh yp (hp w z hw hz)⟩
  show vp_in ((20 * nI w) + nI z) 400 ∧ _
  rw [ei, ci]
  refine ⟨vi, ?_⟩
  rcases hk1.1 w z hw hz with ⟨a, b⟩ | ⟨a, b⟩
  · exact br_t a (Y _ (fun yh yp h => br_f (fun e => b (h.mp e)) ⟨rfl, re_in F1⟩))
  · exact br_f a (Y _ (fun yh yp h => br_t (h.mpr b) ⟨rfl, re_in F1⟩))
theorem sm_same {k : Nat} (F : re_F T L C G D B P I bb xK xI kk kb kp kn ki ka kh kd kf kg xb yb xz xu xc) (v1 v2 : Int32) : wpX_same (fun r u' => wpY_same (fun r' v' => r' = r ∧ i_Rel (k + 7) u' v') (nI T, nI L, yW, nI C, nI G, yV, yD, yR, yA, yF, yO, kk, kb, kp, kf, kn, ki, ka, kg, kh, yb, yw, nu, rs, yt, ys, yc, yl, yn, yv, yo, ym, yf, tv, tt, tg, yp, yh) v1 v2) (nI T, nI L, nI C, nI G, xV, xA, xF, xD, xN, xS, xK, xI, kk, kb, kp, kn, ki, ka, kh, kd, kf, xb, nu, rs, vt, vn, va, ve, xo, xt, xp, xl, xd, xm, xz, xu, xe, xc, xf) v1 v2 := by
  have F' := F
  obtain ⟨hA, hS, ⟨hL, hC, hG⟩, hB, hpl, hkn⟩ := F'
  have hT := sc_T20 hS
  unfold wpX_same
  rcases sm_ix v1 (n := T) (by omega) with h | ⟨w, hw, rfl⟩
  · refine xf_isType_n h (br_t rfl ?_)
    unfold wpY_same
    exact yf_isT_n hT h (br_t rfl ⟨rfl, re_in F⟩)
  rcases sm_ix v2 (n := T) (by omega) with h | ⟨z, hz, rfl⟩
  · refine xf_isType_y hT hw (br_f (by decide) (xf_isType_n h (br_t rfl ?_)))
    unfold wpY_same
    exact yf_isT_y hT hw (br_f (by decide) (yf_isT_n hT h (br_t rfl ⟨rfl, re_in F⟩)))
  refine xf_isType_y hT hw (br_f (by decide) (xf_isType_y hT hz (br_f (by decide) (kn_main hA hS hpl hkn (fun xI xz xu xe xc xf hpl1 hk1 => ?_)))))
  have F1 : re_F T L C G D B P I bb 1 xI kk kb kp kn ki ka kh kd kf kg xb yb xz xu xc := ⟨hA, hS, ⟨hL, hC, hG⟩, hB, hpl1, Or.inr ⟨rfl, hk1⟩⟩
  have ei : 20 * nI w + nI z = nI (20 * w + z) := by rw [ba_20, nI_add]
  have vi : vp_in (nI (20 * w + z)) 400 := vp_in_nI (by omega) (by decide)
  have ci : (nI (20 * w + z)).toNatClampNeg = 20 * w + z := nI_clamp (by omega)
  have cw : (nI w).toNatClampNeg = w := nI_clamp (by omega)
  have cz : (nI z).toNatClampNeg = z := nI_clamp (by omega)
  have Y : ∀ post : Int32 → SY → Prop, (∀ yp : Nat → Int32, (¬ yp (20 * w + z) = 0 ↔ pa_S T D B P I kn ka kh kd kf w z) → ((yp (20 * w + z) = 0 → post 0 (nI T, nI L, yW, nI C, nI G, yV, yD, yR, yA, yF, yO, kk, kb, kp, kf, kn, ki, ka, kg, kh, yb, yw, nu, rs, yt, ys, yc, yl, yn, yv, yo, ym, yf, tv, tt, tg, yp, yh)) ∧ (¬ yp (20 * w + z) = 0 → post 1 (nI T, nI L, yW, nI C, nI G, yV, yD, yR, yA, yF, yO, kk, kb, kp, kf, kn, ki, ka, kg, kh, yb, yw, nu, rs, yt, ys, yc, yl, yn, yv, yo, ym, yf, tv, tt, tg, yp, yh)))) → wpY_same post (nI T, nI L, yW, nI C, nI G, yV, yD, yR, yA, yF, yO, kk, kb, kp, kf, kn, ki, ka, kg, kh, yb, yw, nu, rs, yt, ys, yc, yl, yn, yv, yo, ym, yf, tv, tt, tg, yp, yh) (nI w) (nI z) := by
    intro post h
    unfold wpY_same
    refine yf_isT_y hT hw (br_f (by decide) (yf_isT_y hT hz (br_f (by decide) (cr_same hA hS (fun yp hp => ?_)))))
    show vp_in ((20 * nI w) + nI z) 400 ∧ _
    rw [ei, ci]
    exact ⟨vi, h yp (hp w z hw hz)⟩
  show vp_in (nI w) 20 ∧ _
  refine ⟨vp_in_nI (by omega) (by decide), vp_in_nI (by omega) (by decide), ?_⟩
  rw [cw, cz]
  by_cases e : xc w = xc z
  · have b := (hk1.2.1 w z hw hz).mp e
    exact br_t e (Y _ (fun yp h => br_f (h.mpr b) ⟨rfl, re_in F1⟩))
  · exact br_f e (Y _ (fun yp h => br_t (Classical.byContradiction fun q => e ((hk1.2.1 w z hw hz).mpr (h.mp q))) ⟨rfl, re_in F1⟩))
theorem sm_different {k : Nat} (F : re_F T L C G D B P I bb xK xI kk kb kp kn ki ka kh kd kf kg xb yb xz xu xc) : wpX_different (fun r u' => wpY_different (fun r' v' => r' = r ∧ i_Rel (k + 7) u' v') (nI T, nI L, yW, nI C, nI G, yV, yD, yR, yA, yF, yO, kk, kb, kp, kf, kn, ki, ka, kg, kh, yb, yw, nu, rs, yt, ys, yc, yl, yn, yv, yo, ym, yf, tv, tt, tg, yp, yh)) (nI T, nI L, nI C, nI G, xV, xA, xF, xD, xN, xS, xK, xI, kk, kb, kp, kn, ki, ka, kh, kd, kf, xb, nu, rs, vt, vn, va, ve, xo, xt, xp, xl, xd, xm, xz, xu, xe, xc, xf) := by
  have F' := F
  obtain ⟨hA, hS, ⟨hL, hC, hG⟩, hB, hpl, hkn⟩ := F'
  have hT := sc_T20 hS
  unfold wpX_different wpY_different
  refine kn_main hA hS hpl hkn (fun xI xz xu xe xc xf hpl1 hk1 => ?_)
  have F1 : re_F T L C G D B P I bb 1 xI kk kb kp kn ki ka kh kd kf kg xb yb xz xu xc := ⟨hA, hS, ⟨hL, hC, hG⟩, hB, hpl1, Or.inr ⟨rfl, hk1⟩⟩
  obtain ⟨q, q1, q2⟩ := hk1.2.2
  refine cr_same hA hS (fun yp hp => Exists.intro (T + 1) (df_9 hT (q := q) (fun t ht => ?_) ⟨q2.symm, re_in F1⟩ T 0 _ (by omega) (by omega)))
  rw [q1 t ht]
  exact ⟨fun h u hu => Classical.byContradiction fun z => h u hu ((hp u t (by omega) ht).mp z), fun h u hu z => (hp u t (by omega) ht).mpr z (h u hu)⟩
end
end
section
section
theorem ow_0 : re_F 0 0 0 0 (fun _ => 0) (fun _ => 0) (fun _ => 0) (fun _ => 0) (fun _ => 0) 0 0 (fun _ => 0) (fun _ => 0) (fun _ => 0) (fun _ => 0) (fun _ => 0) (fun _ => 0) (fun _ => 0) (fun _ => 0) (fun _ => 0) (fun _ => 0) (fun _ => 0) (fun _ => 0) (fun _ => 0) (fun _ => 0) (fun _ => 0) := by
  refine ⟨⟨fun _ => rfl, fun _ => by show 0 ≤ 9; omega, fun _ => rfl, fun _ => by show 0 < 20; omega, fun _ => rfl, fun _ => by show 0 ≤ 5; omega, fun _ => rfl, fun _ => by show 0 < 20; omega⟩, ⟨by omega, fun _ _ => rfl, fun _ => by show 0 ≤ 0 - 1; omega, fun _ (e : 0 = 7) => by omega, fun _ (e : 0 = 6) => by omega, fun _ _ (e : 0 = 8) => by omega, fun _ => ⟨by show (0 : Int32) ≤ 0; decide, by show (0 : Int32) < 16; decide⟩, fun _ => Or.inl ⟨rfl, rfl⟩⟩, ⟨by omega, by omega, by omega⟩, fun _ => ⟨by show (0 : Int32) &&& 255 = nI 0; decide, rfl, by show 0 < 256; omega⟩, fun w r k hw => by omega, Or.inl rfl⟩
end
end
section
section
theorem i_vc0 : wpX_init (fun u => wpY_init (fun v => i_Rel 0 u v)) := re_in (k := 0) (T := 0) (L := 0) (C := 0) (G := 0) (D := fun _ => 0) (B := fun _ => 0) (P := fun _ => 0) (I := fun _ => 0) (bb := fun _ => 0) ow_0
theorem i_vc_type {k : Nat} {u : SX} {v : SY} (I : i_Rel k u v) (hk : k + 7 ≤ 3584) (v1 : Int32) (v2 : Int32) : wpX_type (fun r u' => wpY_type (fun r' v' => r' = r ∧ i_Rel (k + 7) u' v') v v1 v2) u v1 v2 := by
  refine re_el (Q := fun u v => wpX_type (fun r u' => wpY_type (fun r' v' => r' = r ∧ i_Rel (k + 7) u' v') v v1 v2) u v1 v2) ?_ I
  intros
  exact sm_type (by assumption) v1 v2
theorem i_vc_symbol {k : Nat} {u : SX} {v : SY} (I : i_Rel k u v) (hk : k + 7 ≤ 3584) (v1 : Int32) (v2 : Int32) : wpX_symbol (fun r u' => wpY_symbol (fun r' v' => r' = r ∧ i_Rel (k + 7) u' v') v v1 v2) u v1 v2 := by
  refine re_el (Q := fun u v => wpX_symbol (fun r u' => wpY_symbol (fun r' v' => r' = r ∧ i_Rel (k + 7) u' v') v v1 v2) u v1 v2) ?_ I
  intros
  exact sm_symbol (by assumption) v1 v2
theorem i_vc_fallback {k : Nat} {u : SX} {v : SY} (I : i_Rel k u v) (hk : k + 7 ≤ 3584) (v1 : Int32) (v2 : Int32) : wpX_fallback (fun r u' => wpY_fallback (fun r' v' => r' = r ∧ i_Rel (k + 7) u' v') v v1 v2) u v1 v2 := by
  refine re_el (Q := fun u v => wpX_fallback (fun r u' => wpY_fallback (fun r' v' => r' = r ∧ i_Rel (k + 7) u' v') v v1 v2) u v1 v2) ?_ I
  intros
  exact sm_fallback (by assumption) v1 v2
theorem i_vc_branch {k : Nat} {u : SX} {v : SY} (I : i_Rel k u v) (hk : k + 7 ≤ 3584) (v1 : Int32) (v2 : Int32) : wpX_branch (fun r u' => wpY_branch (fun r' v' => r' = r ∧ i_Rel (k + 7) u' v') v v1 v2) u v1 v2 := by
  refine re_el (Q := fun u v => wpX_branch (fun r u' => wpY_branch (fun r' v' => r' = r ∧ i_Rel (k + 7) u' v') v v1 v2) u v1 v2) ?_ I
  intros
  exact sm_branch (by assumption) v1 v2
theorem i_vc_field {k : Nat} {u : SX} {v : SY} (I : i_Rel k u v) (hk : k + 7 ≤ 3584) (v1 : Int32) (v2 : Int32) (v3 : Int32) (v4 : Int32) (v5 : Int32) (v6 : Int32) : wpX_field (fun r u' => wpY_field (fun r' v' => r' = r ∧ i_Rel (k + 7) u' v') v v1 v2 v3 v4 (lw_bz v5) v6) u v1 v2 v3 v4 (lw_bz v5) v6 := by
  refine re_el (Q := fun u v => wpX_field (fun r u' => wpY_field (fun r' v' => r' = r ∧ i_Rel (k + 7) u' v') v v1 v2 v3 v4 (lw_bz v5) v6) u v1 v2 v3 v4 (lw_bz v5) v6) ?_ I
  intros
  exact sm_field (by assumption) v1 v2 v3 v4 (lw_bz v5) v6 (lw_bz_01 v5)
theorem i_vc_add {k : Nat} {u : SX} {v : SY} (I : i_Rel k u v) (hk : k + 7 ≤ 3584) (v1 : Int32) : wpX_add (fun r u' => wpY_add (fun r' v' => r' = r ∧ i_Rel (k + 7) u' v') v v1) u v1 := by
  refine re_el (Q := fun u v => wpX_add (fun r u' => wpY_add (fun r' v' => r' = r ∧ i_Rel (k + 7) u' v') v v1) u v1) ?_ I
  intros
  exact sm_add (by assumption) v1
theorem i_vc_at {k : Nat} {u : SX} {v : SY} (I : i_Rel k u v) (hk : k + 7 ≤ 3584) (v1 : Int32) : wpX_at (fun r => wpY_at (fun r' => r' = r ∧ i_Rel (k + 7) u v) v v1) u v1 := by
  refine re_el (Q := fun u v => wpX_at (fun r => wpY_at (fun r' => r' = r ∧ i_Rel (k + 7) u v) v v1) u v1) ?_ I
  intros
  exact sm_at (by assumption) v1
theorem i_vc_wipe {k : Nat} {u : SX} {v : SY} (I : i_Rel k u v) (hk : k + 7 ≤ 3584) (v1 : Int32) : wpX_wipe (fun r u' => wpY_wipe (fun r' v' => r' = r ∧ i_Rel (k + 7) u' v') v (lw_bz v1)) u (lw_bz v1) := by
  refine re_el (Q := fun u v => wpX_wipe (fun r u' => wpY_wipe (fun r' v' => r' = r ∧ i_Rel (k + 7) u' v') v (lw_bz v1)) u (lw_bz v1)) ?_ I
  intros
  exact sm_wipe (by assumption) (lw_bz v1)
theorem i_vc_number {k : Nat} {u : SX} {v : SY} (I : i_Rel k u v) (hk : k + 7 ≤ 3584) (a0 : Int64) : wpX_number (fun r u' => wpY_number (fun r' v' => r' = r ∧ i_Rel (k + 7) u' v') v a0) u a0 := by
  refine re_el (Q := fun u v => wpX_number (fun r u' => wpY_number (fun r' v' => r' = r ∧ i_Rel (k + 7) u' v') v a0) u a0) ?_ I
  intros
  exact sm_number (by assumption) a0
theorem i_vc_read {k : Nat} {u : SX} {v : SY} (I : i_Rel k u v) (hk : k + 7 ≤ 3584) (v1 : Int32) (v2 : Int32) : wpX_read (fun r u' => wpY_read (fun r' v' => r' = r ∧ i_Rel (k + 7) u' v') v v1 v2) u v1 v2 := by
  refine re_el (Q := fun u v => wpX_read (fun r u' => wpY_read (fun r' v' => r' = r ∧ i_Rel (k + 7) u' v') v v1 v2) u v1 v2) ?_ I
  intros
  exact sm_read (by assumption) v1 v2
theorem i_vc_result {k : Nat} {u : SX} {v : SY} (I : i_Rel k u v) (hk : k + 7 ≤ 3584) (v1 : Int32) : wpX_result (fun r => wpY_result (fun r' => r' = r ∧ i_Rel (k + 7) u v) v v1) u v1 := by
  refine re_el (Q := fun u v => wpX_result (fun r => wpY_result (fun r' => r' = r ∧ i_Rel (k + 7) u v) v v1) u v1) ?_ I
  intros
  exact sm_result (by assumption) v1
theorem i_vc_write {k : Nat} {u : SX} {v : SY} (I : i_Rel k u v) (hk : k + 7 ≤ 3584) (v1 : Int32) : wpX_write (fun r u' => wpY_write (fun r' v' => r' = r ∧ i_Rel (k + 7) u' v') v v1) u v1 := by
  refine re_el (Q := fun u v => wpX_write (fun r u' => wpY_write (fun r' v' => r' = r ∧ i_Rel (k + 7) u' v') v v1) u v1) ?_ I
  intros
  exact sm_write (by assumption) v1
theorem i_vc_safe {k : Nat} {u : SX} {v : SY} (I : i_Rel k u v) (hk : k + 7 ≤ 3584) (v1 : Int32) (v2 : Int32) : wpX_safe (fun r u' => wpY_safe (fun r' v' => r' = r ∧ i_Rel (k + 7) u' v') v v1 v2) u v1 v2 := by
  refine re_el (Q := fun u v => wpX_safe (fun r u' => wpY_safe (fun r' v' => r' = r ∧ i_Rel (k + 7) u' v') v v1 v2) u v1 v2) ?_ I
  intros
  exact sm_safe (by assumption) v1 v2
theorem i_vc_same {k : Nat} {u : SX} {v : SY} (I : i_Rel k u v) (hk : k + 7 ≤ 3584) (v1 : Int32) (v2 : Int32) : wpX_same (fun r u' => wpY_same (fun r' v' => r' = r ∧ i_Rel (k + 7) u' v') v v1 v2) u v1 v2 := by
  refine re_el (Q := fun u v => wpX_same (fun r u' => wpY_same (fun r' v' => r' = r ∧ i_Rel (k + 7) u' v') v v1 v2) u v1 v2) ?_ I
  intros
  exact sm_same (by assumption) v1 v2
theorem i_vc_different {k : Nat} {u : SX} {v : SY} (I : i_Rel k u v) (hk : k + 7 ≤ 3584) : wpX_different (fun r u' => wpY_different (fun r' v' => r' = r ∧ i_Rel (k + 7) u' v') v) u := by
  refine re_el (Q := fun u v => wpX_different (fun r u' => wpY_different (fun r' v' => r' = r ∧ i_Rel (k + 7) u' v') v ) u ) ?_ I
  intros
  exact sm_different (by assumption) 
end
end
