section
/-! pure rows to paste: stores, nI and lN arithmetic, masks, shifts, narrowing, branches by naturals (pk_le, pk_lt, pk_eq), loops (lp1 .. lp16: the measure of the state; rp1 ..: recursion), negatives. Take what you need -/
theorem pk_us {f : Nat → Int32} {k : Nat} {x : Int32} : upd f k x k = x := if_pos rfl
theorem pk_un {f : Nat → Int32} {k j : Nat} {x : Int32} (h : j ≠ k) : upd f k x j = f j := if_neg h
theorem pk_uLs {f : Nat → Int64} {k : Nat} {x : Int64} : vp_updL f k x k = x := if_pos rfl
theorem pk_uLn {f : Nat → Int64} {k j : Nat} {x : Int64} (h : j ≠ k) : vp_updL f k x j = f j := if_neg h
theorem pk_sub {a b : Nat} (h : b ≤ a) : nI a - nI b = nI (a - b) := by
  obtain ⟨c, rfl⟩ : ∃ c, a = c + b := ⟨a - b, by omega⟩
  rw [← nI_add, Int32.add_sub_cancel, Nat.add_sub_cancel]
theorem pk_m1 (n : Nat) : nI (n + 1) + (-1) = nI n := by
  rw [← nI_1, Int32.add_assoc, show (1 : Int32) + (-1) = 0 from rfl, Int32.add_zero]
theorem pk_mul (a b : Nat) : nI a * nI b = nI (a * b) := (Int32.ofNat_mul a b).symm
theorem pk_div {a d : Nat} (ha : a < 2 ^ 31) (h0 : 0 < d) (hd : d < 2 ^ 31) : nI a / nI d = nI (a / d) := by
  apply Int32.toInt_inj.mp
  rw [lg_idiv_nonneg (by rw [nI_toInt ha]; omega) (by rw [nI_toInt hd]; omega), nI_toInt ha, nI_toInt hd, nI_toInt (Nat.lt_of_le_of_lt (Nat.div_le_self a d) ha)]
  first | rfl | exact (Int.natCast_ediv _ _).symm
theorem pk_rem {a d : Nat} (ha : a < 2 ^ 31) (h0 : 0 < d) (hd : d < 2 ^ 31) : nI a - nI a / nI d * nI d = nI (a % d) := by
  rw [pk_div ha h0 hd, pk_mul, pk_sub (Nat.div_mul_le_self a d)]
  exact congrArg nI (by have := Nat.div_add_mod' a d; omega)
theorem pk_sub_toInt {a b : Nat} (ha : a < 2 ^ 30) (hb : b < 2 ^ 30) : (nI a - nI b).toInt = (a : Int) - b := by
  rw [Int32.toInt_sub, nI_toInt (by omega), nI_toInt (by omega)]
  exact Int.bmod_eq_of_le (by omega) (by omega)
theorem pk_sneg {a b : Nat} (hb : b < 2 ^ 30) (h : a < b) : nI a - nI b < 0 := by
  rw [Int32.lt_iff_toInt_lt, pk_sub_toInt (by omega) hb, show (0 : Int32).toInt = 0 from by decide]
  omega
theorem pk_ix (x : Int32) {n : Nat} (hn : n < 2 ^ 31) : x < 0 ∨ nI n ≤ x ∨ ∃ j : Nat, j < n ∧ x = nI j := by
  by_cases h : x < 0
  · exact Or.inl h
  · obtain ⟨j, hj, rfl⟩ := nI_of h
    by_cases h2 : j < n
    · exact Or.inr (Or.inr ⟨j, h2, rfl⟩)
    · exact Or.inr (Or.inl (nI_le (by omega) hj))
theorem pk_le {x y : Int32} {A B : Prop} (a b : Nat) (f : a ≤ b → A) (g : b < a → B) (hx : x = nI a := by rfl) (hy : y = nI b := by rfl) (ha : a < 2 ^ 31 := by omega) (hb : b < 2 ^ 31 := by omega) : (x ≤ y → A) ∧ (¬ x ≤ y → B) := by
  subst hx hy
  rw [nI_leI ha hb]
  exact ⟨f, fun z => g (by omega)⟩
theorem pk_lt {x y : Int32} {A B : Prop} (a b : Nat) (f : a < b → A) (g : b ≤ a → B) (hx : x = nI a := by rfl) (hy : y = nI b := by rfl) (ha : a < 2 ^ 31 := by omega) (hb : b < 2 ^ 31 := by omega) : (x < y → A) ∧ (¬ x < y → B) := by
  subst hx hy
  rw [nI_ltI ha hb]
  exact ⟨f, fun z => g (by omega)⟩
theorem pk_eq {x y : Int32} {A B : Prop} (a b : Nat) (f : a = b → A) (g : a ≠ b → B) (hx : x = nI a := by rfl) (hy : y = nI b := by rfl) (ha : a < 2 ^ 31 := by omega) (hb : b < 2 ^ 31 := by omega) : (x = y → A) ∧ (¬ x = y → B) := by
  subst hx hy
  rw [nI_eq ha hb]
  exact ⟨f, g⟩
theorem pk_in {x : Int32} (n N : Nat) (h : n < N) (hx : x = nI n := by rfl) (hN : N < 2 ^ 31 := by omega) : vp_in x N := by
  subst hx
  exact vp_in_nI h hN
theorem pk_cl {x : Int32} (n : Nat) (hx : x = nI n := by rfl) (h : n < 2 ^ 31 := by omega) : x.toNatClampNeg = n := by
  subst hx
  exact nI_clamp h
theorem pk_tn {n : Nat} (h : n < 2 ^ 32) : (nI n).toBitVec.toNat = n := Nat.mod_eq_of_lt h
theorem pk_and (x : Int32) {m : Int32} (k : Nat) (hm : m.toBitVec.toNat = 2 ^ k - 1) : x &&& m = nI (x.toBitVec.toNat % 2 ^ k) := by
  apply Int32.toBitVec_inj.mp
  apply BitVec.eq_of_toNat_eq
  rw [Int32.toBitVec_and, BitVec.toNat_and, hm, Nat.and_two_pow_sub_one_eq_mod]
  show _ = (BitVec.ofNat 32 _).toNat
  rw [BitVec.toNat_ofNat]
  exact (Nat.mod_eq_of_lt (Nat.lt_of_le_of_lt (Nat.mod_le _ _) x.toBitVec.isLt)).symm
theorem pk_andN {n : Nat} (h : n < 2 ^ 32) {m : Int32} (k : Nat) (hm : m.toBitVec.toNat = 2 ^ k - 1) : nI n &&& m = nI (n % 2 ^ k) := by
  rw [pk_and _ k hm, pk_tn h]
theorem pk_andE (x : Int32) {m : Int32} (k : Nat) (hm : m.toBitVec.toNat = 2 ^ k - 1) : ∃ j : Nat, j < 2 ^ k ∧ x &&& m = nI j := ⟨_, Nat.mod_lt _ (Nat.two_pow_pos k), pk_and x k hm⟩
theorem pk_andIn (x : Int32) {m : Int32} (k : Nat) (hm : m.toBitVec.toNat = 2 ^ k - 1) (hk : k ≤ 30) : vp_in (x &&& m) (2 ^ k) := by
  obtain ⟨j, hj, e⟩ := pk_andE x k hm
  rw [e]
  exact vp_in_nI hj (Nat.lt_of_le_of_lt (Nat.pow_le_pow_right (by decide) hk) (by decide))
theorem pk_shl (a s : Int32) (k : Nat) (hs : (s.toBitVec.smod 32).toNat = k) : (a <<< s).toBitVec.toNat = a.toBitVec.toNat * 2 ^ k % 2 ^ 32 := by
  show (a.toBitVec <<< (s.toBitVec.smod 32).toNat).toNat = _
  rw [hs, BitVec.toNat_shiftLeft, Nat.shiftLeft_eq]
theorem pk_shlN {n : Nat} (s : Int32) (k : Nat) (hs : (s.toBitVec.smod 32).toNat = k) (h : n * 2 ^ k < 2 ^ 32) : nI n <<< s = nI (n * 2 ^ k) := by
  apply Int32.toBitVec_inj.mp
  apply BitVec.eq_of_toNat_eq
  have hn : n < 2 ^ 32 := Nat.lt_of_le_of_lt (Nat.le_mul_of_pos_right n (Nat.two_pow_pos k)) h
  rw [pk_shl _ _ k hs, pk_tn hn, pk_tn h, Nat.mod_eq_of_lt h]
theorem pk_shr (a s : Int32) (k : Nat) (hs : (s.toBitVec.smod 32).toNat = k) : (a >>> s).toInt = a.toInt >>> k := by
  show (a.toBitVec.sshiftRight (s.toBitVec.smod 32).toNat).toInt = _
  rw [hs, BitVec.toInt_sshiftRight]
  rfl
theorem pk_shrN {n : Nat} (h : n < 2 ^ 31) (s : Int32) (k : Nat) (hs : (s.toBitVec.smod 32).toNat = k) : nI n >>> s = nI (n / 2 ^ k) := by
  apply Int32.toInt_inj.mp
  have h2 : n / 2 ^ k ≤ n := Nat.div_le_self _ _
  rw [pk_shr _ _ k hs, nI_toInt h, nI_toInt (by omega), Int.shiftRight_eq_div_pow]
  rfl
theorem pk_ushr (x s : Int32) (k : Nat) (hs : ((s.toUInt32 &&& Int32.toUInt32 31).toBitVec % 32).toNat = k) : (x.toUInt32 >>> (s.toUInt32 &&& Int32.toUInt32 31)).toInt32.toBitVec.toNat = x.toBitVec.toNat / 2 ^ k := by
  have e : (x.toUInt32 >>> (s.toUInt32 &&& Int32.toUInt32 31)).toInt32.toBitVec = x.toBitVec >>> k := by
    rw [← hs]
    exact UInt32.toBitVec_shiftRight _ _
  rw [e, BitVec.toNat_ushiftRight, Nat.shiftRight_eq_div_pow]
theorem pk_ushrN {n : Nat} (hn : n < 2 ^ 32) (s : Int32) (k : Nat) (hs : ((s.toUInt32 &&& Int32.toUInt32 31).toBitVec % 32).toNat = k) : ((nI n).toUInt32 >>> (s.toUInt32 &&& Int32.toUInt32 31)).toInt32 = nI (n / 2 ^ k) := by
  apply Int32.toBitVec_inj.mp
  apply BitVec.eq_of_toNat_eq
  rw [pk_ushr _ s k hs, pk_tn hn, pk_tn (Nat.lt_of_le_of_lt (Nat.div_le_self _ _) hn)]
theorem pk_nb (z : Int32) : narrow .byte (.int z.toInt8.toInt32) = .int z.toInt8.toInt32 := congrArg Value.int (by simp)
theorem pk_ns (z : Int32) : narrow .short (.int z.toInt16.toInt32) = .int z.toInt16.toInt32 := congrArg Value.int (by simp)
theorem pk_fb (r : Int32) : fits .byte (.int r.toInt8.toInt32) = true := by
  have ⟨a, b⟩ := lg_i2b_range r
  have h1 : (-128 : Int32).toInt = -128 := by decide
  have h2 : (127 : Int32).toInt = 127 := by decide
  simp only [fits, Bool.and_eq_true, decide_eq_true_eq, Int32.le_iff_toInt_le, h1, h2]
  omega
theorem pk_fs (r : Int32) : fits .short (.int r.toInt16.toInt32) = true := by
  have ⟨a, b⟩ := lg_i2s_range r
  have h1 : (-32768 : Int32).toInt = -32768 := by decide
  have h2 : (32767 : Int32).toInt = 32767 := by decide
  simp only [fits, Bool.and_eq_true, decide_eq_true_eq, Int32.le_iff_toInt_le, h1, h2]
  omega
theorem pk_charN {q : Nat} (hq : q < 65536) : narrow .char (.int (nI q)) = .int (nI q) ∧ fits .char (.int (nI q)) = true := by
  constructor
  · have e : (nI q).toUInt32.toUInt16.toUInt32.toInt32 = nI q := by
      apply Int32.toBitVec_inj.mp
      apply BitVec.eq_of_toNat_eq
      show (nI q).toUInt32.toUInt16.toUInt32.toNat = q % 2 ^ 32
      rw [UInt16.toNat_toUInt32, UInt32.toNat_toUInt16, show (nI q).toUInt32.toNat = q % 2 ^ 32 from rfl]
      omega
    exact congrArg Value.int e
  · have a : (0 : Int32) ≤ nI q := nI_pos' (by omega)
    have b : nI q ≤ 65535 := nI_le (b := 65535) (by omega) (by decide)
    show (decide ((0 : Int32) ≤ nI q) && decide (nI q ≤ 65535)) = true
    rw [decide_eq_true a, decide_eq_true b]
    rfl
theorem pk_char (x : Int32) : (x.toUInt32 % 65536).toInt32 = nI (x.toBitVec.toNat % 65536) := by
  apply Int32.toBitVec_inj.mp
  apply BitVec.eq_of_toNat_eq
  rw [pk_tn (by omega)]
  show (x.toUInt32 % 65536).toNat = _
  rw [UInt32.toNat_mod]
  rfl
theorem pk_nc (x : Int32) : narrow .char (.int (x.toUInt32 % 65536).toInt32) = .int (x.toUInt32 % 65536).toInt32 := by
  rw [pk_char]
  exact (pk_charN (Nat.mod_lt _ (by decide))).1
theorem pk_fc (x : Int32) : fits .char (.int (x.toUInt32 % 65536).toInt32) = true := by
  rw [pk_char]
  exact (pk_charN (Nat.mod_lt _ (by decide))).2
theorem pk_vb (z : Int32) : vp_nar .byte z.toInt8.toInt32 = z.toInt8.toInt32 := by rw [vp_nar_byte]; simp
theorem pk_vs (z : Int32) : vp_nar .short z.toInt16.toInt32 = z.toInt16.toInt32 := by rw [vp_nar_short]; simp
theorem pk_vc (z : Int32) : vp_nar .char (z.toUInt32 % 65536).toInt32 = (z.toUInt32 % 65536).toInt32 := Value.int.inj (pk_nc z)
theorem pk_lT {n : Nat} (h : n < 2 ^ 63) : (lN n).toInt = (n : Int) := lg_ofNat_toInt h
theorem pk_lLT {a b : Nat} (ha : a < 2 ^ 63) (hb : b < 2 ^ 63) : lN a < lN b ↔ a < b := by
  rw [Int64.lt_iff_toInt_lt, pk_lT ha, pk_lT hb]; omega
theorem pk_lLE {a b : Nat} (ha : a < 2 ^ 63) (hb : b < 2 ^ 63) : lN a ≤ lN b ↔ a ≤ b := by
  rw [Int64.le_iff_toInt_le, pk_lT ha, pk_lT hb]; omega
theorem pk_lEQ {a b : Nat} (ha : a < 2 ^ 63) (hb : b < 2 ^ 63) : lN a = lN b ↔ a = b := by
  rw [← Int64.toInt_inj, pk_lT ha, pk_lT hb]; omega
theorem pk_lOf {x : Int64} (h : ¬ x < 0) : ∃ k : Nat, k < 2 ^ 63 ∧ x = lN k := by
  rw [Int64.lt_iff_toInt_lt] at h
  have h0 : (0 : Int64).toInt = 0 := by decide
  have hx := Int64.toInt_lt x
  refine ⟨x.toInt.toNat, by omega, Int64.toInt_inj.mp ?_⟩
  rw [pk_lT (by omega)]
  omega
theorem pk_lDiv {a b : Nat} (ha : a < 2 ^ 63) (h0 : 0 < b) (hb : b < 2 ^ 63) : lN a / lN b = lN (a / b) := by
  apply Int64.toInt_inj.mp
  rw [lg_ldiv_nonneg (by rw [pk_lT ha]; omega) (by rw [pk_lT hb]; omega), pk_lT ha, pk_lT hb, pk_lT (Nat.lt_of_le_of_lt (Nat.div_le_self a b) ha)]
  rfl
theorem pk_lRem {a b : Nat} (ha : a < 2 ^ 63) (h0 : 0 < b) (hb : b < 2 ^ 63) : lN a - lN a / lN b * lN b = lN (a % b) := by
  rw [pk_lDiv ha h0 hb, lN_mul, lN_sub (Nat.div_mul_le_self a b)]
  exact congrArg lN (by have := Nat.div_add_mod' a b; omega)
theorem pk_loop {σ : Type} (W : Nat → Nat → σ → Prop) (I : Nat → σ → Prop) (e i0 : Nat) (s : σ) (hi : i0 ≤ e) (h0 : I i0 s) (hx : ∀ n s, I e s → W (n + 1) e s)
    (hs : ∀ n i s, i < e → I i s → (∀ s', I (i + 1) s' → W n (i + 1) s') → W (n + 1) i s) : ∃ n, W n i0 s :=
  ⟨e + 1, loop_i W I e hx hs (e + 1) i0 s hi (by omega) h0⟩
theorem pk_loopD {σ : Type} (W : Nat → Nat → σ → Prop) (I : Nat → σ → Prop) (hx : ∀ n s, I 0 s → W (n + 1) 0 s)
    (hs : ∀ n i s, I (i + 1) s → (∀ s', I i s' → W n i s') → W (n + 1) (i + 1) s) : ∀ (e : Nat) (s : σ), I e s → W (e + 1) e s := by
  intro e
  induction e with
  | zero => exact fun s h => hx 0 s h
  | succ e ih => exact fun s h => hs (e + 1) e s h (fun s' h' => ih s' h')
theorem lp1 {A1 : Type} (W : Nat → A1 → Prop) (I : A1 → Prop) (μ : A1 → Nat) (hs : ∀ (n : Nat) (a1 : A1), I a1 → (∀ (b1 : A1), I b1 → μ b1 < μ a1 → W n b1) → W (n + 1) a1) (a1 : A1) (h : I a1) : ∃ n, W n a1 :=
  loop_m (σ := A1) (fun n s => W n s) (fun s => I s) (fun s => μ s) (fun n s hI hk => hs n s hI (fun b1 h9 hm => hk b1 h9 hm)) a1 h
theorem lp2 {A1 A2 : Type} (W : Nat → A1 → A2 → Prop) (I : A1 → A2 → Prop) (μ : A1 → A2 → Nat) (hs : ∀ (n : Nat) (a1 : A1) (a2 : A2), I a1 a2 → (∀ (b1 : A1) (b2 : A2), I b1 b2 → μ b1 b2 < μ a1 a2 → W n b1 b2) → W (n + 1) a1 a2) (a1 : A1) (a2 : A2) (h : I a1 a2) : ∃ n, W n a1 a2 :=
  loop_m (σ := A1 × A2) (fun n s => W n s.1 s.2) (fun s => I s.1 s.2) (fun s => μ s.1 s.2) (fun n s hI hk => hs n s.1 s.2 hI (fun b1 b2 h9 hm => hk (b1, b2) h9 hm)) (a1, a2) h
theorem lp3 {A1 A2 A3 : Type} (W : Nat → A1 → A2 → A3 → Prop) (I : A1 → A2 → A3 → Prop) (μ : A1 → A2 → A3 → Nat) (hs : ∀ (n : Nat) (a1 : A1) (a2 : A2) (a3 : A3), I a1 a2 a3 → (∀ (b1 : A1) (b2 : A2) (b3 : A3), I b1 b2 b3 → μ b1 b2 b3 < μ a1 a2 a3 → W n b1 b2 b3) → W (n + 1) a1 a2 a3) (a1 : A1) (a2 : A2) (a3 : A3) (h : I a1 a2 a3) : ∃ n, W n a1 a2 a3 :=
  loop_m (σ := A1 × A2 × A3) (fun n s => W n s.1 s.2.1 s.2.2) (fun s => I s.1 s.2.1 s.2.2) (fun s => μ s.1 s.2.1 s.2.2) (fun n s hI hk => hs n s.1 s.2.1 s.2.2 hI (fun b1 b2 b3 h9 hm => hk (b1, b2, b3) h9 hm)) (a1, a2, a3) h
theorem lp4 {A1 A2 A3 A4 : Type} (W : Nat → A1 → A2 → A3 → A4 → Prop) (I : A1 → A2 → A3 → A4 → Prop) (μ : A1 → A2 → A3 → A4 → Nat) (hs : ∀ (n : Nat) (a1 : A1) (a2 : A2) (a3 : A3) (a4 : A4), I a1 a2 a3 a4 → (∀ (b1 : A1) (b2 : A2) (b3 : A3) (b4 : A4), I b1 b2 b3 b4 → μ b1 b2 b3 b4 < μ a1 a2 a3 a4 → W n b1 b2 b3 b4) → W (n + 1) a1 a2 a3 a4) (a1 : A1) (a2 : A2) (a3 : A3) (a4 : A4) (h : I a1 a2 a3 a4) : ∃ n, W n a1 a2 a3 a4 :=
  loop_m (σ := A1 × A2 × A3 × A4) (fun n s => W n s.1 s.2.1 s.2.2.1 s.2.2.2) (fun s => I s.1 s.2.1 s.2.2.1 s.2.2.2) (fun s => μ s.1 s.2.1 s.2.2.1 s.2.2.2) (fun n s hI hk => hs n s.1 s.2.1 s.2.2.1 s.2.2.2 hI (fun b1 b2 b3 b4 h9 hm => hk (b1, b2, b3, b4) h9 hm)) (a1, a2, a3, a4) h
theorem lp5 {A1 A2 A3 A4 A5 : Type} (W : Nat → A1 → A2 → A3 → A4 → A5 → Prop) (I : A1 → A2 → A3 → A4 → A5 → Prop) (μ : A1 → A2 → A3 → A4 → A5 → Nat) (hs : ∀ (n : Nat) (a1 : A1) (a2 : A2) (a3 : A3) (a4 : A4) (a5 : A5), I a1 a2 a3 a4 a5 → (∀ (b1 : A1) (b2 : A2) (b3 : A3) (b4 : A4) (b5 : A5), I b1 b2 b3 b4 b5 → μ b1 b2 b3 b4 b5 < μ a1 a2 a3 a4 a5 → W n b1 b2 b3 b4 b5) → W (n + 1) a1 a2 a3 a4 a5) (a1 : A1) (a2 : A2) (a3 : A3) (a4 : A4) (a5 : A5) (h : I a1 a2 a3 a4 a5) : ∃ n, W n a1 a2 a3 a4 a5 :=
  loop_m (σ := A1 × A2 × A3 × A4 × A5) (fun n s => W n s.1 s.2.1 s.2.2.1 s.2.2.2.1 s.2.2.2.2) (fun s => I s.1 s.2.1 s.2.2.1 s.2.2.2.1 s.2.2.2.2) (fun s => μ s.1 s.2.1 s.2.2.1 s.2.2.2.1 s.2.2.2.2) (fun n s hI hk => hs n s.1 s.2.1 s.2.2.1 s.2.2.2.1 s.2.2.2.2 hI (fun b1 b2 b3 b4 b5 h9 hm => hk (b1, b2, b3, b4, b5) h9 hm)) (a1, a2, a3, a4, a5) h
theorem lp6 {A1 A2 A3 A4 A5 A6 : Type} (W : Nat → A1 → A2 → A3 → A4 → A5 → A6 → Prop) (I : A1 → A2 → A3 → A4 → A5 → A6 → Prop) (μ : A1 → A2 → A3 → A4 → A5 → A6 → Nat) (hs : ∀ (n : Nat) (a1 : A1) (a2 : A2) (a3 : A3) (a4 : A4) (a5 : A5) (a6 : A6), I a1 a2 a3 a4 a5 a6 → (∀ (b1 : A1) (b2 : A2) (b3 : A3) (b4 : A4) (b5 : A5) (b6 : A6), I b1 b2 b3 b4 b5 b6 → μ b1 b2 b3 b4 b5 b6 < μ a1 a2 a3 a4 a5 a6 → W n b1 b2 b3 b4 b5 b6) → W (n + 1) a1 a2 a3 a4 a5 a6) (a1 : A1) (a2 : A2) (a3 : A3) (a4 : A4) (a5 : A5) (a6 : A6) (h : I a1 a2 a3 a4 a5 a6) : ∃ n, W n a1 a2 a3 a4 a5 a6 :=
  loop_m (σ := A1 × A2 × A3 × A4 × A5 × A6) (fun n s => W n s.1 s.2.1 s.2.2.1 s.2.2.2.1 s.2.2.2.2.1 s.2.2.2.2.2) (fun s => I s.1 s.2.1 s.2.2.1 s.2.2.2.1 s.2.2.2.2.1 s.2.2.2.2.2) (fun s => μ s.1 s.2.1 s.2.2.1 s.2.2.2.1 s.2.2.2.2.1 s.2.2.2.2.2) (fun n s hI hk => hs n s.1 s.2.1 s.2.2.1 s.2.2.2.1 s.2.2.2.2.1 s.2.2.2.2.2 hI (fun b1 b2 b3 b4 b5 b6 h9 hm => hk (b1, b2, b3, b4, b5, b6) h9 hm)) (a1, a2, a3, a4, a5, a6) h
theorem lp7 {A1 A2 A3 A4 A5 A6 A7 : Type} (W : Nat → A1 → A2 → A3 → A4 → A5 → A6 → A7 → Prop) (I : A1 → A2 → A3 → A4 → A5 → A6 → A7 → Prop) (μ : A1 → A2 → A3 → A4 → A5 → A6 → A7 → Nat) (hs : ∀ (n : Nat) (a1 : A1) (a2 : A2) (a3 : A3) (a4 : A4) (a5 : A5) (a6 : A6) (a7 : A7), I a1 a2 a3 a4 a5 a6 a7 → (∀ (b1 : A1) (b2 : A2) (b3 : A3) (b4 : A4) (b5 : A5) (b6 : A6) (b7 : A7), I b1 b2 b3 b4 b5 b6 b7 → μ b1 b2 b3 b4 b5 b6 b7 < μ a1 a2 a3 a4 a5 a6 a7 → W n b1 b2 b3 b4 b5 b6 b7) → W (n + 1) a1 a2 a3 a4 a5 a6 a7) (a1 : A1) (a2 : A2) (a3 : A3) (a4 : A4) (a5 : A5) (a6 : A6) (a7 : A7) (h : I a1 a2 a3 a4 a5 a6 a7) : ∃ n, W n a1 a2 a3 a4 a5 a6 a7 :=
  loop_m (σ := A1 × A2 × A3 × A4 × A5 × A6 × A7) (fun n s => W n s.1 s.2.1 s.2.2.1 s.2.2.2.1 s.2.2.2.2.1 s.2.2.2.2.2.1 s.2.2.2.2.2.2) (fun s => I s.1 s.2.1 s.2.2.1 s.2.2.2.1 s.2.2.2.2.1 s.2.2.2.2.2.1 s.2.2.2.2.2.2) (fun s => μ s.1 s.2.1 s.2.2.1 s.2.2.2.1 s.2.2.2.2.1 s.2.2.2.2.2.1 s.2.2.2.2.2.2) (fun n s hI hk => hs n s.1 s.2.1 s.2.2.1 s.2.2.2.1 s.2.2.2.2.1 s.2.2.2.2.2.1 s.2.2.2.2.2.2 hI (fun b1 b2 b3 b4 b5 b6 b7 h9 hm => hk (b1, b2, b3, b4, b5, b6, b7) h9 hm)) (a1, a2, a3, a4, a5, a6, a7) h
theorem lp8 {A1 A2 A3 A4 A5 A6 A7 A8 : Type} (W : Nat → A1 → A2 → A3 → A4 → A5 → A6 → A7 → A8 → Prop) (I : A1 → A2 → A3 → A4 → A5 → A6 → A7 → A8 → Prop) (μ : A1 → A2 → A3 → A4 → A5 → A6 → A7 → A8 → Nat) (hs : ∀ (n : Nat) (a1 : A1) (a2 : A2) (a3 : A3) (a4 : A4) (a5 : A5) (a6 : A6) (a7 : A7) (a8 : A8), I a1 a2 a3 a4 a5 a6 a7 a8 → (∀ (b1 : A1) (b2 : A2) (b3 : A3) (b4 : A4) (b5 : A5) (b6 : A6) (b7 : A7) (b8 : A8), I b1 b2 b3 b4 b5 b6 b7 b8 → μ b1 b2 b3 b4 b5 b6 b7 b8 < μ a1 a2 a3 a4 a5 a6 a7 a8 → W n b1 b2 b3 b4 b5 b6 b7 b8) → W (n + 1) a1 a2 a3 a4 a5 a6 a7 a8) (a1 : A1) (a2 : A2) (a3 : A3) (a4 : A4) (a5 : A5) (a6 : A6) (a7 : A7) (a8 : A8) (h : I a1 a2 a3 a4 a5 a6 a7 a8) : ∃ n, W n a1 a2 a3 a4 a5 a6 a7 a8 :=
  loop_m (σ := A1 × A2 × A3 × A4 × A5 × A6 × A7 × A8) (fun n s => W n s.1 s.2.1 s.2.2.1 s.2.2.2.1 s.2.2.2.2.1 s.2.2.2.2.2.1 s.2.2.2.2.2.2.1 s.2.2.2.2.2.2.2) (fun s => I s.1 s.2.1 s.2.2.1 s.2.2.2.1 s.2.2.2.2.1 s.2.2.2.2.2.1 s.2.2.2.2.2.2.1 s.2.2.2.2.2.2.2) (fun s => μ s.1 s.2.1 s.2.2.1 s.2.2.2.1 s.2.2.2.2.1 s.2.2.2.2.2.1 s.2.2.2.2.2.2.1 s.2.2.2.2.2.2.2) (fun n s hI hk => hs n s.1 s.2.1 s.2.2.1 s.2.2.2.1 s.2.2.2.2.1 s.2.2.2.2.2.1 s.2.2.2.2.2.2.1 s.2.2.2.2.2.2.2 hI (fun b1 b2 b3 b4 b5 b6 b7 b8 h9 hm => hk (b1, b2, b3, b4, b5, b6, b7, b8) h9 hm)) (a1, a2, a3, a4, a5, a6, a7, a8) h
theorem lp9 {A1 A2 A3 A4 A5 A6 A7 A8 A9 : Type} (W : Nat → A1 → A2 → A3 → A4 → A5 → A6 → A7 → A8 → A9 → Prop) (I : A1 → A2 → A3 → A4 → A5 → A6 → A7 → A8 → A9 → Prop) (μ : A1 → A2 → A3 → A4 → A5 → A6 → A7 → A8 → A9 → Nat) (hs : ∀ (n : Nat) (a1 : A1) (a2 : A2) (a3 : A3) (a4 : A4) (a5 : A5) (a6 : A6) (a7 : A7) (a8 : A8) (a9 : A9), I a1 a2 a3 a4 a5 a6 a7 a8 a9 → (∀ (b1 : A1) (b2 : A2) (b3 : A3) (b4 : A4) (b5 : A5) (b6 : A6) (b7 : A7) (b8 : A8) (b9 : A9), I b1 b2 b3 b4 b5 b6 b7 b8 b9 → μ b1 b2 b3 b4 b5 b6 b7 b8 b9 < μ a1 a2 a3 a4 a5 a6 a7 a8 a9 → W n b1 b2 b3 b4 b5 b6 b7 b8 b9) → W (n + 1) a1 a2 a3 a4 a5 a6 a7 a8 a9) (a1 : A1) (a2 : A2) (a3 : A3) (a4 : A4) (a5 : A5) (a6 : A6) (a7 : A7) (a8 : A8) (a9 : A9) (h : I a1 a2 a3 a4 a5 a6 a7 a8 a9) : ∃ n, W n a1 a2 a3 a4 a5 a6 a7 a8 a9 :=
  loop_m (σ := A1 × A2 × A3 × A4 × A5 × A6 × A7 × A8 × A9) (fun n s => W n s.1 s.2.1 s.2.2.1 s.2.2.2.1 s.2.2.2.2.1 s.2.2.2.2.2.1 s.2.2.2.2.2.2.1 s.2.2.2.2.2.2.2.1 s.2.2.2.2.2.2.2.2) (fun s => I s.1 s.2.1 s.2.2.1 s.2.2.2.1 s.2.2.2.2.1 s.2.2.2.2.2.1 s.2.2.2.2.2.2.1 s.2.2.2.2.2.2.2.1 s.2.2.2.2.2.2.2.2) (fun s => μ s.1 s.2.1 s.2.2.1 s.2.2.2.1 s.2.2.2.2.1 s.2.2.2.2.2.1 s.2.2.2.2.2.2.1 s.2.2.2.2.2.2.2.1 s.2.2.2.2.2.2.2.2) (fun n s hI hk => hs n s.1 s.2.1 s.2.2.1 s.2.2.2.1 s.2.2.2.2.1 s.2.2.2.2.2.1 s.2.2.2.2.2.2.1 s.2.2.2.2.2.2.2.1 s.2.2.2.2.2.2.2.2 hI (fun b1 b2 b3 b4 b5 b6 b7 b8 b9 h9 hm => hk (b1, b2, b3, b4, b5, b6, b7, b8, b9) h9 hm)) (a1, a2, a3, a4, a5, a6, a7, a8, a9) h
theorem lp10 {A1 A2 A3 A4 A5 A6 A7 A8 A9 A10 : Type} (W : Nat → A1 → A2 → A3 → A4 → A5 → A6 → A7 → A8 → A9 → A10 → Prop) (I : A1 → A2 → A3 → A4 → A5 → A6 → A7 → A8 → A9 → A10 → Prop) (μ : A1 → A2 → A3 → A4 → A5 → A6 → A7 → A8 → A9 → A10 → Nat) (hs : ∀ (n : Nat) (a1 : A1) (a2 : A2) (a3 : A3) (a4 : A4) (a5 : A5) (a6 : A6) (a7 : A7) (a8 : A8) (a9 : A9) (a10 : A10), I a1 a2 a3 a4 a5 a6 a7 a8 a9 a10 → (∀ (b1 : A1) (b2 : A2) (b3 : A3) (b4 : A4) (b5 : A5) (b6 : A6) (b7 : A7) (b8 : A8) (b9 : A9) (b10 : A10), I b1 b2 b3 b4 b5 b6 b7 b8 b9 b10 → μ b1 b2 b3 b4 b5 b6 b7 b8 b9 b10 < μ a1 a2 a3 a4 a5 a6 a7 a8 a9 a10 → W n b1 b2 b3 b4 b5 b6 b7 b8 b9 b10) → W (n + 1) a1 a2 a3 a4 a5 a6 a7 a8 a9 a10) (a1 : A1) (a2 : A2) (a3 : A3) (a4 : A4) (a5 : A5) (a6 : A6) (a7 : A7) (a8 : A8) (a9 : A9) (a10 : A10) (h : I a1 a2 a3 a4 a5 a6 a7 a8 a9 a10) : ∃ n, W n a1 a2 a3 a4 a5 a6 a7 a8 a9 a10 :=
  loop_m (σ := A1 × A2 × A3 × A4 × A5 × A6 × A7 × A8 × A9 × A10) (fun n s => W n s.1 s.2.1 s.2.2.1 s.2.2.2.1 s.2.2.2.2.1 s.2.2.2.2.2.1 s.2.2.2.2.2.2.1 s.2.2.2.2.2.2.2.1 s.2.2.2.2.2.2.2.2.1 s.2.2.2.2.2.2.2.2.2) (fun s => I s.1 s.2.1 s.2.2.1 s.2.2.2.1 s.2.2.2.2.1 s.2.2.2.2.2.1 s.2.2.2.2.2.2.1 s.2.2.2.2.2.2.2.1 s.2.2.2.2.2.2.2.2.1 s.2.2.2.2.2.2.2.2.2) (fun s => μ s.1 s.2.1 s.2.2.1 s.2.2.2.1 s.2.2.2.2.1 s.2.2.2.2.2.1 s.2.2.2.2.2.2.1 s.2.2.2.2.2.2.2.1 s.2.2.2.2.2.2.2.2.1 s.2.2.2.2.2.2.2.2.2) (fun n s hI hk => hs n s.1 s.2.1 s.2.2.1 s.2.2.2.1 s.2.2.2.2.1 s.2.2.2.2.2.1 s.2.2.2.2.2.2.1 s.2.2.2.2.2.2.2.1 s.2.2.2.2.2.2.2.2.1 s.2.2.2.2.2.2.2.2.2 hI (fun b1 b2 b3 b4 b5 b6 b7 b8 b9 b10 h9 hm => hk (b1, b2, b3, b4, b5, b6, b7, b8, b9, b10) h9 hm)) (a1, a2, a3, a4, a5, a6, a7, a8, a9, a10) h
theorem lp11 {A1 A2 A3 A4 A5 A6 A7 A8 A9 A10 A11 : Type} (W : Nat → A1 → A2 → A3 → A4 → A5 → A6 → A7 → A8 → A9 → A10 → A11 → Prop) (I : A1 → A2 → A3 → A4 → A5 → A6 → A7 → A8 → A9 → A10 → A11 → Prop) (μ : A1 → A2 → A3 → A4 → A5 → A6 → A7 → A8 → A9 → A10 → A11 → Nat) (hs : ∀ (n : Nat) (a1 : A1) (a2 : A2) (a3 : A3) (a4 : A4) (a5 : A5) (a6 : A6) (a7 : A7) (a8 : A8) (a9 : A9) (a10 : A10) (a11 : A11), I a1 a2 a3 a4 a5 a6 a7 a8 a9 a10 a11 → (∀ (b1 : A1) (b2 : A2) (b3 : A3) (b4 : A4) (b5 : A5) (b6 : A6) (b7 : A7) (b8 : A8) (b9 : A9) (b10 : A10) (b11 : A11), I b1 b2 b3 b4 b5 b6 b7 b8 b9 b10 b11 → μ b1 b2 b3 b4 b5 b6 b7 b8 b9 b10 b11 < μ a1 a2 a3 a4 a5 a6 a7 a8 a9 a10 a11 → W n b1 b2 b3 b4 b5 b6 b7 b8 b9 b10 b11) → W (n + 1) a1 a2 a3 a4 a5 a6 a7 a8 a9 a10 a11) (a1 : A1) (a2 : A2) (a3 : A3) (a4 : A4) (a5 : A5) (a6 : A6) (a7 : A7) (a8 : A8) (a9 : A9) (a10 : A10) (a11 : A11) (h : I a1 a2 a3 a4 a5 a6 a7 a8 a9 a10 a11) : ∃ n, W n a1 a2 a3 a4 a5 a6 a7 a8 a9 a10 a11 :=
  loop_m (σ := A1 × A2 × A3 × A4 × A5 × A6 × A7 × A8 × A9 × A10 × A11) (fun n s => W n s.1 s.2.1 s.2.2.1 s.2.2.2.1 s.2.2.2.2.1 s.2.2.2.2.2.1 s.2.2.2.2.2.2.1 s.2.2.2.2.2.2.2.1 s.2.2.2.2.2.2.2.2.1 s.2.2.2.2.2.2.2.2.2.1 s.2.2.2.2.2.2.2.2.2.2) (fun s => I s.1 s.2.1 s.2.2.1 s.2.2.2.1 s.2.2.2.2.1 s.2.2.2.2.2.1 s.2.2.2.2.2.2.1 s.2.2.2.2.2.2.2.1 s.2.2.2.2.2.2.2.2.1 s.2.2.2.2.2.2.2.2.2.1 s.2.2.2.2.2.2.2.2.2.2) (fun s => μ s.1 s.2.1 s.2.2.1 s.2.2.2.1 s.2.2.2.2.1 s.2.2.2.2.2.1 s.2.2.2.2.2.2.1 s.2.2.2.2.2.2.2.1 s.2.2.2.2.2.2.2.2.1 s.2.2.2.2.2.2.2.2.2.1 s.2.2.2.2.2.2.2.2.2.2) (fun n s hI hk => hs n s.1 s.2.1 s.2.2.1 s.2.2.2.1 s.2.2.2.2.1 s.2.2.2.2.2.1 s.2.2.2.2.2.2.1 s.2.2.2.2.2.2.2.1 s.2.2.2.2.2.2.2.2.1 s.2.2.2.2.2.2.2.2.2.1 s.2.2.2.2.2.2.2.2.2.2 hI (fun b1 b2 b3 b4 b5 b6 b7 b8 b9 b10 b11 h9 hm => hk (b1, b2, b3, b4, b5, b6, b7, b8, b9, b10, b11) h9 hm)) (a1, a2, a3, a4, a5, a6, a7, a8, a9, a10, a11) h
theorem lp12 {A1 A2 A3 A4 A5 A6 A7 A8 A9 A10 A11 A12 : Type} (W : Nat → A1 → A2 → A3 → A4 → A5 → A6 → A7 → A8 → A9 → A10 → A11 → A12 → Prop) (I : A1 → A2 → A3 → A4 → A5 → A6 → A7 → A8 → A9 → A10 → A11 → A12 → Prop) (μ : A1 → A2 → A3 → A4 → A5 → A6 → A7 → A8 → A9 → A10 → A11 → A12 → Nat) (hs : ∀ (n : Nat) (a1 : A1) (a2 : A2) (a3 : A3) (a4 : A4) (a5 : A5) (a6 : A6) (a7 : A7) (a8 : A8) (a9 : A9) (a10 : A10) (a11 : A11) (a12 : A12), I a1 a2 a3 a4 a5 a6 a7 a8 a9 a10 a11 a12 → (∀ (b1 : A1) (b2 : A2) (b3 : A3) (b4 : A4) (b5 : A5) (b6 : A6) (b7 : A7) (b8 : A8) (b9 : A9) (b10 : A10) (b11 : A11) (b12 : A12), I b1 b2 b3 b4 b5 b6 b7 b8 b9 b10 b11 b12 → μ b1 b2 b3 b4 b5 b6 b7 b8 b9 b10 b11 b12 < μ a1 a2 a3 a4 a5 a6 a7 a8 a9 a10 a11 a12 → W n b1 b2 b3 b4 b5 b6 b7 b8 b9 b10 b11 b12) → W (n + 1) a1 a2 a3 a4 a5 a6 a7 a8 a9 a10 a11 a12) (a1 : A1) (a2 : A2) (a3 : A3) (a4 : A4) (a5 : A5) (a6 : A6) (a7 : A7) (a8 : A8) (a9 : A9) (a10 : A10) (a11 : A11) (a12 : A12) (h : I a1 a2 a3 a4 a5 a6 a7 a8 a9 a10 a11 a12) : ∃ n, W n a1 a2 a3 a4 a5 a6 a7 a8 a9 a10 a11 a12 :=
  loop_m (σ := A1 × A2 × A3 × A4 × A5 × A6 × A7 × A8 × A9 × A10 × A11 × A12) (fun n s => W n s.1 s.2.1 s.2.2.1 s.2.2.2.1 s.2.2.2.2.1 s.2.2.2.2.2.1 s.2.2.2.2.2.2.1 s.2.2.2.2.2.2.2.1 s.2.2.2.2.2.2.2.2.1 s.2.2.2.2.2.2.2.2.2.1 s.2.2.2.2.2.2.2.2.2.2.1 s.2.2.2.2.2.2.2.2.2.2.2) (fun s => I s.1 s.2.1 s.2.2.1 s.2.2.2.1 s.2.2.2.2.1 s.2.2.2.2.2.1 s.2.2.2.2.2.2.1 s.2.2.2.2.2.2.2.1 s.2.2.2.2.2.2.2.2.1 s.2.2.2.2.2.2.2.2.2.1 s.2.2.2.2.2.2.2.2.2.2.1 s.2.2.2.2.2.2.2.2.2.2.2) (fun s => μ s.1 s.2.1 s.2.2.1 s.2.2.2.1 s.2.2.2.2.1 s.2.2.2.2.2.1 s.2.2.2.2.2.2.1 s.2.2.2.2.2.2.2.1 s.2.2.2.2.2.2.2.2.1 s.2.2.2.2.2.2.2.2.2.1 s.2.2.2.2.2.2.2.2.2.2.1 s.2.2.2.2.2.2.2.2.2.2.2) (fun n s hI hk => hs n s.1 s.2.1 s.2.2.1 s.2.2.2.1 s.2.2.2.2.1 s.2.2.2.2.2.1 s.2.2.2.2.2.2.1 s.2.2.2.2.2.2.2.1 s.2.2.2.2.2.2.2.2.1 s.2.2.2.2.2.2.2.2.2.1 s.2.2.2.2.2.2.2.2.2.2.1 s.2.2.2.2.2.2.2.2.2.2.2 hI (fun b1 b2 b3 b4 b5 b6 b7 b8 b9 b10 b11 b12 h9 hm => hk (b1, b2, b3, b4, b5, b6, b7, b8, b9, b10, b11, b12) h9 hm)) (a1, a2, a3, a4, a5, a6, a7, a8, a9, a10, a11, a12) h
theorem lp13 {A1 A2 A3 A4 A5 A6 A7 A8 A9 A10 A11 A12 A13 : Type} (W : Nat → A1 → A2 → A3 → A4 → A5 → A6 → A7 → A8 → A9 → A10 → A11 → A12 → A13 → Prop) (I : A1 → A2 → A3 → A4 → A5 → A6 → A7 → A8 → A9 → A10 → A11 → A12 → A13 → Prop) (μ : A1 → A2 → A3 → A4 → A5 → A6 → A7 → A8 → A9 → A10 → A11 → A12 → A13 → Nat) (hs : ∀ (n : Nat) (a1 : A1) (a2 : A2) (a3 : A3) (a4 : A4) (a5 : A5) (a6 : A6) (a7 : A7) (a8 : A8) (a9 : A9) (a10 : A10) (a11 : A11) (a12 : A12) (a13 : A13), I a1 a2 a3 a4 a5 a6 a7 a8 a9 a10 a11 a12 a13 → (∀ (b1 : A1) (b2 : A2) (b3 : A3) (b4 : A4) (b5 : A5) (b6 : A6) (b7 : A7) (b8 : A8) (b9 : A9) (b10 : A10) (b11 : A11) (b12 : A12) (b13 : A13), I b1 b2 b3 b4 b5 b6 b7 b8 b9 b10 b11 b12 b13 → μ b1 b2 b3 b4 b5 b6 b7 b8 b9 b10 b11 b12 b13 < μ a1 a2 a3 a4 a5 a6 a7 a8 a9 a10 a11 a12 a13 → W n b1 b2 b3 b4 b5 b6 b7 b8 b9 b10 b11 b12 b13) → W (n + 1) a1 a2 a3 a4 a5 a6 a7 a8 a9 a10 a11 a12 a13) (a1 : A1) (a2 : A2) (a3 : A3) (a4 : A4) (a5 : A5) (a6 : A6) (a7 : A7) (a8 : A8) (a9 : A9) (a10 : A10) (a11 : A11) (a12 : A12) (a13 : A13) (h : I a1 a2 a3 a4 a5 a6 a7 a8 a9 a10 a11 a12 a13) : ∃ n, W n a1 a2 a3 a4 a5 a6 a7 a8 a9 a10 a11 a12 a13 :=
  loop_m (σ := A1 × A2 × A3 × A4 × A5 × A6 × A7 × A8 × A9 × A10 × A11 × A12 × A13) (fun n s => W n s.1 s.2.1 s.2.2.1 s.2.2.2.1 s.2.2.2.2.1 s.2.2.2.2.2.1 s.2.2.2.2.2.2.1 s.2.2.2.2.2.2.2.1 s.2.2.2.2.2.2.2.2.1 s.2.2.2.2.2.2.2.2.2.1 s.2.2.2.2.2.2.2.2.2.2.1 s.2.2.2.2.2.2.2.2.2.2.2.1 s.2.2.2.2.2.2.2.2.2.2.2.2) (fun s => I s.1 s.2.1 s.2.2.1 s.2.2.2.1 s.2.2.2.2.1 s.2.2.2.2.2.1 s.2.2.2.2.2.2.1 s.2.2.2.2.2.2.2.1 s.2.2.2.2.2.2.2.2.1 s.2.2.2.2.2.2.2.2.2.1 s.2.2.2.2.2.2.2.2.2.2.1 s.2.2.2.2.2.2.2.2.2.2.2.1 s.2.2.2.2.2.2.2.2.2.2.2.2) (fun s => μ s.1 s.2.1 s.2.2.1 s.2.2.2.1 s.2.2.2.2.1 s.2.2.2.2.2.1 s.2.2.2.2.2.2.1 s.2.2.2.2.2.2.2.1 s.2.2.2.2.2.2.2.2.1 s.2.2.2.2.2.2.2.2.2.1 s.2.2.2.2.2.2.2.2.2.2.1 s.2.2.2.2.2.2.2.2.2.2.2.1 s.2.2.2.2.2.2.2.2.2.2.2.2) (fun n s hI hk => hs n s.1 s.2.1 s.2.2.1 s.2.2.2.1 s.2.2.2.2.1 s.2.2.2.2.2.1 s.2.2.2.2.2.2.1 s.2.2.2.2.2.2.2.1 s.2.2.2.2.2.2.2.2.1 s.2.2.2.2.2.2.2.2.2.1 s.2.2.2.2.2.2.2.2.2.2.1 s.2.2.2.2.2.2.2.2.2.2.2.1 s.2.2.2.2.2.2.2.2.2.2.2.2 hI (fun b1 b2 b3 b4 b5 b6 b7 b8 b9 b10 b11 b12 b13 h9 hm => hk (b1, b2, b3, b4, b5, b6, b7, b8, b9, b10, b11, b12, b13) h9 hm)) (a1, a2, a3, a4, a5, a6, a7, a8, a9, a10, a11, a12, a13) h
theorem lp14 {A1 A2 A3 A4 A5 A6 A7 A8 A9 A10 A11 A12 A13 A14 : Type} (W : Nat → A1 → A2 → A3 → A4 → A5 → A6 → A7 → A8 → A9 → A10 → A11 → A12 → A13 → A14 → Prop) (I : A1 → A2 → A3 → A4 → A5 → A6 → A7 → A8 → A9 → A10 → A11 → A12 → A13 → A14 → Prop) (μ : A1 → A2 → A3 → A4 → A5 → A6 → A7 → A8 → A9 → A10 → A11 → A12 → A13 → A14 → Nat) (hs : ∀ (n : Nat) (a1 : A1) (a2 : A2) (a3 : A3) (a4 : A4) (a5 : A5) (a6 : A6) (a7 : A7) (a8 : A8) (a9 : A9) (a10 : A10) (a11 : A11) (a12 : A12) (a13 : A13) (a14 : A14), I a1 a2 a3 a4 a5 a6 a7 a8 a9 a10 a11 a12 a13 a14 → (∀ (b1 : A1) (b2 : A2) (b3 : A3) (b4 : A4) (b5 : A5) (b6 : A6) (b7 : A7) (b8 : A8) (b9 : A9) (b10 : A10) (b11 : A11) (b12 : A12) (b13 : A13) (b14 : A14), I b1 b2 b3 b4 b5 b6 b7 b8 b9 b10 b11 b12 b13 b14 → μ b1 b2 b3 b4 b5 b6 b7 b8 b9 b10 b11 b12 b13 b14 < μ a1 a2 a3 a4 a5 a6 a7 a8 a9 a10 a11 a12 a13 a14 → W n b1 b2 b3 b4 b5 b6 b7 b8 b9 b10 b11 b12 b13 b14) → W (n + 1) a1 a2 a3 a4 a5 a6 a7 a8 a9 a10 a11 a12 a13 a14) (a1 : A1) (a2 : A2) (a3 : A3) (a4 : A4) (a5 : A5) (a6 : A6) (a7 : A7) (a8 : A8) (a9 : A9) (a10 : A10) (a11 : A11) (a12 : A12) (a13 : A13) (a14 : A14) (h : I a1 a2 a3 a4 a5 a6 a7 a8 a9 a10 a11 a12 a13 a14) : ∃ n, W n a1 a2 a3 a4 a5 a6 a7 a8 a9 a10 a11 a12 a13 a14 :=
  loop_m (σ := A1 × A2 × A3 × A4 × A5 × A6 × A7 × A8 × A9 × A10 × A11 × A12 × A13 × A14) (fun n s => W n s.1 s.2.1 s.2.2.1 s.2.2.2.1 s.2.2.2.2.1 s.2.2.2.2.2.1 s.2.2.2.2.2.2.1 s.2.2.2.2.2.2.2.1 s.2.2.2.2.2.2.2.2.1 s.2.2.2.2.2.2.2.2.2.1 s.2.2.2.2.2.2.2.2.2.2.1 s.2.2.2.2.2.2.2.2.2.2.2.1 s.2.2.2.2.2.2.2.2.2.2.2.2.1 s.2.2.2.2.2.2.2.2.2.2.2.2.2) (fun s => I s.1 s.2.1 s.2.2.1 s.2.2.2.1 s.2.2.2.2.1 s.2.2.2.2.2.1 s.2.2.2.2.2.2.1 s.2.2.2.2.2.2.2.1 s.2.2.2.2.2.2.2.2.1 s.2.2.2.2.2.2.2.2.2.1 s.2.2.2.2.2.2.2.2.2.2.1 s.2.2.2.2.2.2.2.2.2.2.2.1 s.2.2.2.2.2.2.2.2.2.2.2.2.1 s.2.2.2.2.2.2.2.2.2.2.2.2.2) (fun s => μ s.1 s.2.1 s.2.2.1 s.2.2.2.1 s.2.2.2.2.1 s.2.2.2.2.2.1 s.2.2.2.2.2.2.1 s.2.2.2.2.2.2.2.1 s.2.2.2.2.2.2.2.2.1 s.2.2.2.2.2.2.2.2.2.1 s.2.2.2.2.2.2.2.2.2.2.1 s.2.2.2.2.2.2.2.2.2.2.2.1 s.2.2.2.2.2.2.2.2.2.2.2.2.1 s.2.2.2.2.2.2.2.2.2.2.2.2.2) (fun n s hI hk => hs n s.1 s.2.1 s.2.2.1 s.2.2.2.1 s.2.2.2.2.1 s.2.2.2.2.2.1 s.2.2.2.2.2.2.1 s.2.2.2.2.2.2.2.1 s.2.2.2.2.2.2.2.2.1 s.2.2.2.2.2.2.2.2.2.1 s.2.2.2.2.2.2.2.2.2.2.1 s.2.2.2.2.2.2.2.2.2.2.2.1 s.2.2.2.2.2.2.2.2.2.2.2.2.1 s.2.2.2.2.2.2.2.2.2.2.2.2.2 hI (fun b1 b2 b3 b4 b5 b6 b7 b8 b9 b10 b11 b12 b13 b14 h9 hm => hk (b1, b2, b3, b4, b5, b6, b7, b8, b9, b10, b11, b12, b13, b14) h9 hm)) (a1, a2, a3, a4, a5, a6, a7, a8, a9, a10, a11, a12, a13, a14) h
theorem lp15 {A1 A2 A3 A4 A5 A6 A7 A8 A9 A10 A11 A12 A13 A14 A15 : Type} (W : Nat → A1 → A2 → A3 → A4 → A5 → A6 → A7 → A8 → A9 → A10 → A11 → A12 → A13 → A14 → A15 → Prop) (I : A1 → A2 → A3 → A4 → A5 → A6 → A7 → A8 → A9 → A10 → A11 → A12 → A13 → A14 → A15 → Prop) (μ : A1 → A2 → A3 → A4 → A5 → A6 → A7 → A8 → A9 → A10 → A11 → A12 → A13 → A14 → A15 → Nat) (hs : ∀ (n : Nat) (a1 : A1) (a2 : A2) (a3 : A3) (a4 : A4) (a5 : A5) (a6 : A6) (a7 : A7) (a8 : A8) (a9 : A9) (a10 : A10) (a11 : A11) (a12 : A12) (a13 : A13) (a14 : A14) (a15 : A15), I a1 a2 a3 a4 a5 a6 a7 a8 a9 a10 a11 a12 a13 a14 a15 → (∀ (b1 : A1) (b2 : A2) (b3 : A3) (b4 : A4) (b5 : A5) (b6 : A6) (b7 : A7) (b8 : A8) (b9 : A9) (b10 : A10) (b11 : A11) (b12 : A12) (b13 : A13) (b14 : A14) (b15 : A15), I b1 b2 b3 b4 b5 b6 b7 b8 b9 b10 b11 b12 b13 b14 b15 → μ b1 b2 b3 b4 b5 b6 b7 b8 b9 b10 b11 b12 b13 b14 b15 < μ a1 a2 a3 a4 a5 a6 a7 a8 a9 a10 a11 a12 a13 a14 a15 → W n b1 b2 b3 b4 b5 b6 b7 b8 b9 b10 b11 b12 b13 b14 b15) → W (n + 1) a1 a2 a3 a4 a5 a6 a7 a8 a9 a10 a11 a12 a13 a14 a15) (a1 : A1) (a2 : A2) (a3 : A3) (a4 : A4) (a5 : A5) (a6 : A6) (a7 : A7) (a8 : A8) (a9 : A9) (a10 : A10) (a11 : A11) (a12 : A12) (a13 : A13) (a14 : A14) (a15 : A15) (h : I a1 a2 a3 a4 a5 a6 a7 a8 a9 a10 a11 a12 a13 a14 a15) : ∃ n, W n a1 a2 a3 a4 a5 a6 a7 a8 a9 a10 a11 a12 a13 a14 a15 :=
  loop_m (σ := A1 × A2 × A3 × A4 × A5 × A6 × A7 × A8 × A9 × A10 × A11 × A12 × A13 × A14 × A15) (fun n s => W n s.1 s.2.1 s.2.2.1 s.2.2.2.1 s.2.2.2.2.1 s.2.2.2.2.2.1 s.2.2.2.2.2.2.1 s.2.2.2.2.2.2.2.1 s.2.2.2.2.2.2.2.2.1 s.2.2.2.2.2.2.2.2.2.1 s.2.2.2.2.2.2.2.2.2.2.1 s.2.2.2.2.2.2.2.2.2.2.2.1 s.2.2.2.2.2.2.2.2.2.2.2.2.1 s.2.2.2.2.2.2.2.2.2.2.2.2.2.1 s.2.2.2.2.2.2.2.2.2.2.2.2.2.2) (fun s => I s.1 s.2.1 s.2.2.1 s.2.2.2.1 s.2.2.2.2.1 s.2.2.2.2.2.1 s.2.2.2.2.2.2.1 s.2.2.2.2.2.2.2.1 s.2.2.2.2.2.2.2.2.1 s.2.2.2.2.2.2.2.2.2.1 s.2.2.2.2.2.2.2.2.2.2.1 s.2.2.2.2.2.2.2.2.2.2.2.1 s.2.2.2.2.2.2.2.2.2.2.2.2.1 s.2.2.2.2.2.2.2.2.2.2.2.2.2.1 s.2.2.2.2.2.2.2.2.2.2.2.2.2.2) (fun s => μ s.1 s.2.1 s.2.2.1 s.2.2.2.1 s.2.2.2.2.1 s.2.2.2.2.2.1 s.2.2.2.2.2.2.1 s.2.2.2.2.2.2.2.1 s.2.2.2.2.2.2.2.2.1 s.2.2.2.2.2.2.2.2.2.1 s.2.2.2.2.2.2.2.2.2.2.1 s.2.2.2.2.2.2.2.2.2.2.2.1 s.2.2.2.2.2.2.2.2.2.2.2.2.1 s.2.2.2.2.2.2.2.2.2.2.2.2.2.1 s.2.2.2.2.2.2.2.2.2.2.2.2.2.2) (fun n s hI hk => hs n s.1 s.2.1 s.2.2.1 s.2.2.2.1 s.2.2.2.2.1 s.2.2.2.2.2.1 s.2.2.2.2.2.2.1 s.2.2.2.2.2.2.2.1 s.2.2.2.2.2.2.2.2.1 s.2.2.2.2.2.2.2.2.2.1 s.2.2.2.2.2.2.2.2.2.2.1 s.2.2.2.2.2.2.2.2.2.2.2.1 s.2.2.2.2.2.2.2.2.2.2.2.2.1 s.2.2.2.2.2.2.2.2.2.2.2.2.2.1 s.2.2.2.2.2.2.2.2.2.2.2.2.2.2 hI (fun b1 b2 b3 b4 b5 b6 b7 b8 b9 b10 b11 b12 b13 b14 b15 h9 hm => hk (b1, b2, b3, b4, b5, b6, b7, b8, b9, b10, b11, b12, b13, b14, b15) h9 hm)) (a1, a2, a3, a4, a5, a6, a7, a8, a9, a10, a11, a12, a13, a14, a15) h
theorem lp16 {A1 A2 A3 A4 A5 A6 A7 A8 A9 A10 A11 A12 A13 A14 A15 A16 : Type} (W : Nat → A1 → A2 → A3 → A4 → A5 → A6 → A7 → A8 → A9 → A10 → A11 → A12 → A13 → A14 → A15 → A16 → Prop) (I : A1 → A2 → A3 → A4 → A5 → A6 → A7 → A8 → A9 → A10 → A11 → A12 → A13 → A14 → A15 → A16 → Prop) (μ : A1 → A2 → A3 → A4 → A5 → A6 → A7 → A8 → A9 → A10 → A11 → A12 → A13 → A14 → A15 → A16 → Nat) (hs : ∀ (n : Nat) (a1 : A1) (a2 : A2) (a3 : A3) (a4 : A4) (a5 : A5) (a6 : A6) (a7 : A7) (a8 : A8) (a9 : A9) (a10 : A10) (a11 : A11) (a12 : A12) (a13 : A13) (a14 : A14) (a15 : A15) (a16 : A16), I a1 a2 a3 a4 a5 a6 a7 a8 a9 a10 a11 a12 a13 a14 a15 a16 → (∀ (b1 : A1) (b2 : A2) (b3 : A3) (b4 : A4) (b5 : A5) (b6 : A6) (b7 : A7) (b8 : A8) (b9 : A9) (b10 : A10) (b11 : A11) (b12 : A12) (b13 : A13) (b14 : A14) (b15 : A15) (b16 : A16), I b1 b2 b3 b4 b5 b6 b7 b8 b9 b10 b11 b12 b13 b14 b15 b16 → μ b1 b2 b3 b4 b5 b6 b7 b8 b9 b10 b11 b12 b13 b14 b15 b16 < μ a1 a2 a3 a4 a5 a6 a7 a8 a9 a10 a11 a12 a13 a14 a15 a16 → W n b1 b2 b3 b4 b5 b6 b7 b8 b9 b10 b11 b12 b13 b14 b15 b16) → W (n + 1) a1 a2 a3 a4 a5 a6 a7 a8 a9 a10 a11 a12 a13 a14 a15 a16) (a1 : A1) (a2 : A2) (a3 : A3) (a4 : A4) (a5 : A5) (a6 : A6) (a7 : A7) (a8 : A8) (a9 : A9) (a10 : A10) (a11 : A11) (a12 : A12) (a13 : A13) (a14 : A14) (a15 : A15) (a16 : A16) (h : I a1 a2 a3 a4 a5 a6 a7 a8 a9 a10 a11 a12 a13 a14 a15 a16) : ∃ n, W n a1 a2 a3 a4 a5 a6 a7 a8 a9 a10 a11 a12 a13 a14 a15 a16 :=
  loop_m (σ := A1 × A2 × A3 × A4 × A5 × A6 × A7 × A8 × A9 × A10 × A11 × A12 × A13 × A14 × A15 × A16) (fun n s => W n s.1 s.2.1 s.2.2.1 s.2.2.2.1 s.2.2.2.2.1 s.2.2.2.2.2.1 s.2.2.2.2.2.2.1 s.2.2.2.2.2.2.2.1 s.2.2.2.2.2.2.2.2.1 s.2.2.2.2.2.2.2.2.2.1 s.2.2.2.2.2.2.2.2.2.2.1 s.2.2.2.2.2.2.2.2.2.2.2.1 s.2.2.2.2.2.2.2.2.2.2.2.2.1 s.2.2.2.2.2.2.2.2.2.2.2.2.2.1 s.2.2.2.2.2.2.2.2.2.2.2.2.2.2.1 s.2.2.2.2.2.2.2.2.2.2.2.2.2.2.2) (fun s => I s.1 s.2.1 s.2.2.1 s.2.2.2.1 s.2.2.2.2.1 s.2.2.2.2.2.1 s.2.2.2.2.2.2.1 s.2.2.2.2.2.2.2.1 s.2.2.2.2.2.2.2.2.1 s.2.2.2.2.2.2.2.2.2.1 s.2.2.2.2.2.2.2.2.2.2.1 s.2.2.2.2.2.2.2.2.2.2.2.1 s.2.2.2.2.2.2.2.2.2.2.2.2.1 s.2.2.2.2.2.2.2.2.2.2.2.2.2.1 s.2.2.2.2.2.2.2.2.2.2.2.2.2.2.1 s.2.2.2.2.2.2.2.2.2.2.2.2.2.2.2) (fun s => μ s.1 s.2.1 s.2.2.1 s.2.2.2.1 s.2.2.2.2.1 s.2.2.2.2.2.1 s.2.2.2.2.2.2.1 s.2.2.2.2.2.2.2.1 s.2.2.2.2.2.2.2.2.1 s.2.2.2.2.2.2.2.2.2.1 s.2.2.2.2.2.2.2.2.2.2.1 s.2.2.2.2.2.2.2.2.2.2.2.1 s.2.2.2.2.2.2.2.2.2.2.2.2.1 s.2.2.2.2.2.2.2.2.2.2.2.2.2.1 s.2.2.2.2.2.2.2.2.2.2.2.2.2.2.1 s.2.2.2.2.2.2.2.2.2.2.2.2.2.2.2) (fun n s hI hk => hs n s.1 s.2.1 s.2.2.1 s.2.2.2.1 s.2.2.2.2.1 s.2.2.2.2.2.1 s.2.2.2.2.2.2.1 s.2.2.2.2.2.2.2.1 s.2.2.2.2.2.2.2.2.1 s.2.2.2.2.2.2.2.2.2.1 s.2.2.2.2.2.2.2.2.2.2.1 s.2.2.2.2.2.2.2.2.2.2.2.1 s.2.2.2.2.2.2.2.2.2.2.2.2.1 s.2.2.2.2.2.2.2.2.2.2.2.2.2.1 s.2.2.2.2.2.2.2.2.2.2.2.2.2.2.1 s.2.2.2.2.2.2.2.2.2.2.2.2.2.2.2 hI (fun b1 b2 b3 b4 b5 b6 b7 b8 b9 b10 b11 b12 b13 b14 b15 b16 h9 hm => hk (b1, b2, b3, b4, b5, b6, b7, b8, b9, b10, b11, b12, b13, b14, b15, b16) h9 hm)) (a1, a2, a3, a4, a5, a6, a7, a8, a9, a10, a11, a12, a13, a14, a15, a16) h
theorem pk_least (P : Nat → Prop) (h : ∃ k, P k) : ∃ k, P k ∧ ∀ j, j < k → ¬ P j := by
  obtain ⟨k, hk⟩ := h
  induction k using Nat.strongRecOn with
  | ind k ih =>
    by_cases e : ∃ j, j < k ∧ P j
    · obtain ⟨j, hj, pj⟩ := e
      exact ih j hj pj
    · exact ⟨k, hk, fun j hj pj => e ⟨j, hj, pj⟩⟩
theorem rp1 {ρ A1 : Type} (W : Nat → (ρ → Prop) → A1 → Prop) (ok : A1 → Prop) (μ : A1 → Nat) (val : A1 → ρ)
    (hs : ∀ (d : Nat) (post : ρ → Prop) (a1 : A1), ok a1 → post (val a1) → (∀ (post' : ρ → Prop) (b1 : A1), ok b1 → μ b1 < μ a1 → post' (val b1) → W d post' b1) → W (d + 1) post a1) :
    ∀ (d : Nat) (post : ρ → Prop) (a1 : A1), ok a1 → μ a1 < d → post (val a1) → W d post a1 := by
  intro d
  induction d with
  | zero => intro post a1 _ h; omega
  | succ d ih =>
    intro post a1 ho hm hp
    exact hs d post a1 ho hp (fun post' b1 ho' hm' hp' => ih post' b1 ho' (by omega) hp')
theorem rp2 {ρ A1 A2 : Type} (W : Nat → (ρ → Prop) → A1 → A2 → Prop) (ok : A1 → A2 → Prop) (μ : A1 → A2 → Nat) (val : A1 → A2 → ρ)
    (hs : ∀ (d : Nat) (post : ρ → Prop) (a1 : A1) (a2 : A2), ok a1 a2 → post (val a1 a2) → (∀ (post' : ρ → Prop) (b1 : A1) (b2 : A2), ok b1 b2 → μ b1 b2 < μ a1 a2 → post' (val b1 b2) → W d post' b1 b2) → W (d + 1) post a1 a2) :
    ∀ (d : Nat) (post : ρ → Prop) (a1 : A1) (a2 : A2), ok a1 a2 → μ a1 a2 < d → post (val a1 a2) → W d post a1 a2 := by
  intro d
  induction d with
  | zero => intro post a1 a2 _ h; omega
  | succ d ih =>
    intro post a1 a2 ho hm hp
    exact hs d post a1 a2 ho hp (fun post' b1 b2 ho' hm' hp' => ih post' b1 b2 ho' (by omega) hp')
theorem rp3 {ρ A1 A2 A3 : Type} (W : Nat → (ρ → Prop) → A1 → A2 → A3 → Prop) (ok : A1 → A2 → A3 → Prop) (μ : A1 → A2 → A3 → Nat) (val : A1 → A2 → A3 → ρ)
    (hs : ∀ (d : Nat) (post : ρ → Prop) (a1 : A1) (a2 : A2) (a3 : A3), ok a1 a2 a3 → post (val a1 a2 a3) → (∀ (post' : ρ → Prop) (b1 : A1) (b2 : A2) (b3 : A3), ok b1 b2 b3 → μ b1 b2 b3 < μ a1 a2 a3 → post' (val b1 b2 b3) → W d post' b1 b2 b3) → W (d + 1) post a1 a2 a3) :
    ∀ (d : Nat) (post : ρ → Prop) (a1 : A1) (a2 : A2) (a3 : A3), ok a1 a2 a3 → μ a1 a2 a3 < d → post (val a1 a2 a3) → W d post a1 a2 a3 := by
  intro d
  induction d with
  | zero => intro post a1 a2 a3 _ h; omega
  | succ d ih =>
    intro post a1 a2 a3 ho hm hp
    exact hs d post a1 a2 a3 ho hp (fun post' b1 b2 b3 ho' hm' hp' => ih post' b1 b2 b3 ho' (by omega) hp')
theorem rp4 {ρ A1 A2 A3 A4 : Type} (W : Nat → (ρ → Prop) → A1 → A2 → A3 → A4 → Prop) (ok : A1 → A2 → A3 → A4 → Prop) (μ : A1 → A2 → A3 → A4 → Nat) (val : A1 → A2 → A3 → A4 → ρ)
    (hs : ∀ (d : Nat) (post : ρ → Prop) (a1 : A1) (a2 : A2) (a3 : A3) (a4 : A4), ok a1 a2 a3 a4 → post (val a1 a2 a3 a4) → (∀ (post' : ρ → Prop) (b1 : A1) (b2 : A2) (b3 : A3) (b4 : A4), ok b1 b2 b3 b4 → μ b1 b2 b3 b4 < μ a1 a2 a3 a4 → post' (val b1 b2 b3 b4) → W d post' b1 b2 b3 b4) → W (d + 1) post a1 a2 a3 a4) :
    ∀ (d : Nat) (post : ρ → Prop) (a1 : A1) (a2 : A2) (a3 : A3) (a4 : A4), ok a1 a2 a3 a4 → μ a1 a2 a3 a4 < d → post (val a1 a2 a3 a4) → W d post a1 a2 a3 a4 := by
  intro d
  induction d with
  | zero => intro post a1 a2 a3 a4 _ h; omega
  | succ d ih =>
    intro post a1 a2 a3 a4 ho hm hp
    exact hs d post a1 a2 a3 a4 ho hp (fun post' b1 b2 b3 b4 ho' hm' hp' => ih post' b1 b2 b3 b4 ho' (by omega) hp')
theorem rp5 {ρ A1 A2 A3 A4 A5 : Type} (W : Nat → (ρ → Prop) → A1 → A2 → A3 → A4 → A5 → Prop) (ok : A1 → A2 → A3 → A4 → A5 → Prop) (μ : A1 → A2 → A3 → A4 → A5 → Nat) (val : A1 → A2 → A3 → A4 → A5 → ρ)
    (hs : ∀ (d : Nat) (post : ρ → Prop) (a1 : A1) (a2 : A2) (a3 : A3) (a4 : A4) (a5 : A5), ok a1 a2 a3 a4 a5 → post (val a1 a2 a3 a4 a5) → (∀ (post' : ρ → Prop) (b1 : A1) (b2 : A2) (b3 : A3) (b4 : A4) (b5 : A5), ok b1 b2 b3 b4 b5 → μ b1 b2 b3 b4 b5 < μ a1 a2 a3 a4 a5 → post' (val b1 b2 b3 b4 b5) → W d post' b1 b2 b3 b4 b5) → W (d + 1) post a1 a2 a3 a4 a5) :
    ∀ (d : Nat) (post : ρ → Prop) (a1 : A1) (a2 : A2) (a3 : A3) (a4 : A4) (a5 : A5), ok a1 a2 a3 a4 a5 → μ a1 a2 a3 a4 a5 < d → post (val a1 a2 a3 a4 a5) → W d post a1 a2 a3 a4 a5 := by
  intro d
  induction d with
  | zero => intro post a1 a2 a3 a4 a5 _ h; omega
  | succ d ih =>
    intro post a1 a2 a3 a4 a5 ho hm hp
    exact hs d post a1 a2 a3 a4 a5 ho hp (fun post' b1 b2 b3 b4 b5 ho' hm' hp' => ih post' b1 b2 b3 b4 b5 ho' (by omega) hp')
theorem rp6 {ρ A1 A2 A3 A4 A5 A6 : Type} (W : Nat → (ρ → Prop) → A1 → A2 → A3 → A4 → A5 → A6 → Prop) (ok : A1 → A2 → A3 → A4 → A5 → A6 → Prop) (μ : A1 → A2 → A3 → A4 → A5 → A6 → Nat) (val : A1 → A2 → A3 → A4 → A5 → A6 → ρ)
    (hs : ∀ (d : Nat) (post : ρ → Prop) (a1 : A1) (a2 : A2) (a3 : A3) (a4 : A4) (a5 : A5) (a6 : A6), ok a1 a2 a3 a4 a5 a6 → post (val a1 a2 a3 a4 a5 a6) → (∀ (post' : ρ → Prop) (b1 : A1) (b2 : A2) (b3 : A3) (b4 : A4) (b5 : A5) (b6 : A6), ok b1 b2 b3 b4 b5 b6 → μ b1 b2 b3 b4 b5 b6 < μ a1 a2 a3 a4 a5 a6 → post' (val b1 b2 b3 b4 b5 b6) → W d post' b1 b2 b3 b4 b5 b6) → W (d + 1) post a1 a2 a3 a4 a5 a6) :
    ∀ (d : Nat) (post : ρ → Prop) (a1 : A1) (a2 : A2) (a3 : A3) (a4 : A4) (a5 : A5) (a6 : A6), ok a1 a2 a3 a4 a5 a6 → μ a1 a2 a3 a4 a5 a6 < d → post (val a1 a2 a3 a4 a5 a6) → W d post a1 a2 a3 a4 a5 a6 := by
  intro d
  induction d with
  | zero => intro post a1 a2 a3 a4 a5 a6 _ h; omega
  | succ d ih =>
    intro post a1 a2 a3 a4 a5 a6 ho hm hp
    exact hs d post a1 a2 a3 a4 a5 a6 ho hp (fun post' b1 b2 b3 b4 b5 b6 ho' hm' hp' => ih post' b1 b2 b3 b4 b5 b6 ho' (by omega) hp')
theorem rec_p {σ ρ : Type} (W : Nat → (ρ → Prop) → σ → Prop) (ok : σ → Prop) (μ : σ → Nat) (val : σ → ρ)
    (hs : ∀ d s post, ok s → post (val s) → (∀ s' post', ok s' → μ s' < μ s → post' (val s') → W d post' s') → W (d + 1) post s) :
    ∀ d s post, ok s → μ s < d → post (val s) → W d post s := by
  intro d
  induction d with
  | zero => intro s post _ h; omega
  | succ d ih =>
    intro s post ho hm hp
    exact hs d s post ho hp (fun s' post' ho' hm' hp' => ih s' post' ho' (by omega) hp')
theorem rec_q {σ ρ : Type} (W : Nat → (ρ → Prop) → σ → Prop) (ok : σ → Prop) (μ : σ → Nat) (Q : σ → ρ → Prop)
    (hs : ∀ d s post, ok s → (∀ r, Q s r → post r) → (∀ s' post', ok s' → μ s' < μ s → (∀ r, Q s' r → post' r) → W d post' s') → W (d + 1) post s) :
    ∀ d s post, ok s → μ s < d → (∀ r, Q s r → post r) → W d post s := by
  intro d
  induction d with
  | zero => intro s post _ h; omega
  | succ d ih =>
    intro s post ho hm hp
    exact hs d s post ho hp (fun s' post' ho' hm' hp' => ih s' post' ho' (by omega) hp')
def bx_sum (f : Nat → Int32) : Nat → Int32
  | 0 => 0
  | n + 1 => bx_sum f n + f n
theorem ek_u {A : Prop} {B : Nat → Prop} {k N : Nat} (hk : k < N) (h : B k) : (some k = none → A) ∧ (∀ y : Nat, some k = some y → (y < N ∧ B y)) :=
  ⟨fun z => absurd z (Option.some_ne_none k), fun _ e => (by cases e; exact ⟨hk, h⟩)⟩
theorem ek_nu {A : Prop} {B : Nat → Prop} (h : A) : ((none : Option Nat) = none → A) ∧ (∀ y : Nat, (none : Option Nat) = some y → B y) :=
  ⟨fun _ => h, fun _ e => (by cases e)⟩
theorem ek_if {c d A B : Prop} (e : c ↔ d) (f : d → A) (g : ¬ d → B) : (c → A) ∧ (¬ c → B) :=
  ⟨fun z => f (e.mp z), fun z => g (fun y => z (e.mpr y))⟩
theorem ek_v {α : Sort _} {P : α → Prop} {a b : α} (e : a = b) (h : P b) : P a := e ▸ h
theorem co_some {x : Option Nat} {A : Prop} {B : Nat → Prop} (i : Nat) (h : B i) (hx : x = some i := by rfl) : (x = none → A) ∧ (∀ y : Nat, x = some y → B y) := by
  subst hx
  exact ⟨fun e => (nomatch e), fun y e => Option.some.inj e ▸ h⟩
theorem co_none {x : Option Nat} {A : Prop} {B : Nat → Prop} (h : A) (hx : x = none := by rfl) : (x = none → A) ∧ (∀ y : Nat, x = some y → B y) := by
  subst hx
  exact ⟨fun _ => h, fun y e => (nomatch e)⟩
theorem co_any {x : Option Nat} {A : Prop} {B : Nat → Prop} (hn : x = none → A) (hs : ∀ i : Nat, x = some i → B i) : (x = none → A) ∧ (∀ y : Nat, x = some y → B y) := ⟨hn, hs⟩
theorem co_2 {P : Nat → Prop} (h0 : P 0) (h1 : P 1) {i : Nat} (hi : i < 2) : P i :=
  match i, hi with
  | 0, _ => h0
  | 1, _ => h1
theorem co_3 {P : Nat → Prop} (h0 : P 0) (h1 : P 1) (h2 : P 2) {i : Nat} (hi : i < 3) : P i :=
  match i, hi with
  | 0, _ => h0
  | 1, _ => h1
  | 2, _ => h2
theorem co_4 {P : Nat → Prop} (h0 : P 0) (h1 : P 1) (h2 : P 2) (h3 : P 3) {i : Nat} (hi : i < 4) : P i :=
  match i, hi with
  | 0, _ => h0
  | 1, _ => h1
  | 2, _ => h2
  | 3, _ => h3
theorem co_dec {N : Nat} {P : Nat → Prop} [DecidablePred P] (h : (List.range N).all (fun i => decide (P i)) = true) {i : Nat} (hi : i < N) : P i := by
  have := List.all_eq_true.mp h i (List.mem_range.mpr hi)
  exact of_decide_eq_true this
theorem co_tab {α : Type} {l : List α} {d : α} {P : α → Prop} (h : ∀ a, a ∈ l → P a) {i : Nat} (hi : i < l.length) : P (l.getD i d) := by
  rw [List.getD_eq_getElem?_getD, List.getElem?_eq_getElem hi]
  exact h _ (List.getElem_mem hi)
theorem pk_mu {x : Int32} {L : Nat} (h0 : ¬ x < 0) (h : ¬ nI L ≤ x) (hL : L < 2 ^ 31) : ∃ j : Nat, j < L ∧ x = nI j ∧ x + 1 = nI (j + 1) ∧ x.toNatClampNeg = j ∧ L - (x + 1).toNatClampNeg < L - x.toNatClampNeg := by
  obtain ⟨j, hj, rfl⟩ := nI_of h0
  have hl : j < L := Nat.not_le.mp fun q => h (nI_le q hj)
  refine ⟨j, hl, rfl, nI_1 j, nI_clamp hj, ?_⟩
  rw [nI_1, nI_clamp (by omega), nI_clamp hj]
  omega
theorem op_s {α : Type} {r : Option α} {A : Prop} {B : α → Prop} {y : α} (h : r = some y) (b : B y) : (r = none → A) ∧ ∀ z, r = some z → B z :=
  ⟨fun e => (by rw [h] at e; cases e), fun z e => (by rw [h] at e; cases e; exact b)⟩
def l_holds {α : Type} (a : Nat → Option Nat) (LP : List Nat) (p : Nat → α) (c : Nat) (b : Nat → α) : Prop :=
  ∀ j, j < c → ∃ y, a j = some y ∧ y ∈ LP ∧ p y = b j
theorem l_holds_0 {α : Type} {a : Nat → Option Nat} {LP : List Nat} {p b : Nat → α} : l_holds a LP p 0 b := fun j h => absurd h (Nat.not_lt_zero j)
theorem l_in_new (LP : List Nat) (q : Nat) : q ∈ LP ++ [q] := List.mem_append.mpr (Or.inr (List.mem_singleton.mpr rfl))
def l_sum (b : Nat → Int32) : Nat → Int32
  | 0 => 0
  | k + 1 => l_sum b k + b k
theorem sb_shr0 (x : Int32) : x >>> ((0 : Int32) &&& 31) = x := by
  rw [show ((0 : Int32) &&& 31) = 0 by decide]
  simp
theorem sb_shl0 (x : Int32) : x <<< ((0 : Int32) &&& 31) = x := by
  rw [show ((0 : Int32) &&& 31) = 0 by decide]
  simp
theorem sb_cl0 : (0 : Int32).toNatClampNeg = 0 := by decide
theorem sb_m1 {p : Nat} (h : 0 < p) : nI p + (-1) = nI (p - 1) := by
  obtain ⟨q, rfl⟩ : ∃ q, p = q + 1 := ⟨p - 1, by omega⟩
  exact pk_m1 q
def sb_b (c : Nat) : Int32 := (nI c).toInt8.toInt32
theorem sb_byte : ∀ c, c < 256 → sb_b c &&& 255 = nI c ∧ ((nI c).toUInt32 % 65536).toInt32 = nI c ∧ nI c ≤ 255 := by decide +kernel
def sb_Fit (a : Nat → Int32) : Prop := ∀ j, fits .byte (.int (a j)) = true
def sb_Lat (t : Nat → Nat) (n : Nat) (a : Nat → Int32) : Prop := ∀ j, j < n → t j < 256 ∧ a j = sb_b (t j)
theorem sb_fitB (c : Nat) : fits .byte (.int (sb_b c)) = true := pk_fb _
theorem sb_fit0 : sb_Fit (fun _ => 0) := fun _ => by
  show fits .byte (.int 0) = true
  decide
theorem sb_fitU {a : Nat → Int32} {k : Nat} {x : Int32} (h : sb_Fit a) (hx : fits .byte (.int x) = true) : sb_Fit (upd a k x) := by
  intro j
  by_cases e : j = k
  · subst e
    rw [pk_us]
    exact hx
  · rw [pk_un e]
    exact h j
def sb_cat (t : Nat → Nat) (n : Nat) (s : Nat → Nat) : Nat → Nat := fun j => if j < n then t j else s (j - n)
theorem sb_cat_lo {t s : Nat → Nat} {n j : Nat} (h : j < n) : sb_cat t n s j = t j := if_pos h
theorem sb_cat_hi {t s : Nat → Nat} {n j : Nat} : sb_cat t n s (n + j) = s j := by
  show (if n + j < n then t (n + j) else s (n + j - n)) = s j
  rw [if_neg (by omega), Nat.add_sub_cancel_left]
theorem sb_latPut {t s : Nat → Nat} {n w : Nat} {a a' : Nat → Int32} (h : sb_Lat t n a) (hk : ∀ j, j < n → a' j = a j) (hs : ∀ i, i < w → s i < 256 ∧ a' (n + i) = sb_b (s i)) : sb_Lat (sb_cat t n s) (n + w) a' := by
  intro j hj
  by_cases e : j < n
  · rw [sb_cat_lo e, hk j e]
    exact h j e
  · obtain ⟨i, rfl⟩ : ∃ i, j = n + i := ⟨j - n, by omega⟩
    rw [sb_cat_hi]
    exact hs i (by omega)
theorem sb_latKeep {t : Nat → Nat} {n : Nat} {a a' : Nat → Int32} (h : sb_Lat t n a) (hk : ∀ j, j < n → a' j = a j) : sb_Lat t n a' := fun j hj => by
  rw [hk j hj]
  exact h j hj
def sb_cap (q m : Nat) : Nat := if q ≤ m then m else if 2 * m + 2 < q then q else 2 * m + 2
def sb_Room (q m mc ms : Nat) : Prop := q ≤ m ∨ (1 ≤ mc ∧ sb_cap q m ≤ ms ∧ sb_cap q m ≤ 65536)
theorem sb_cap_ge (q m : Nat) : q ≤ sb_cap q m := by
  unfold sb_cap
  split
  · omega
  · split <;> omega
theorem sb_cap_gem (q m : Nat) : m ≤ sb_cap q m := by
  unfold sb_cap
  split
  · omega
  · split <;> omega
theorem sb_cap_le {q m mc ms : Nat} (hm : m ≤ 65536) (hr : sb_Room q m mc ms) : sb_cap q m ≤ 65536 := by
  rcases hr with h | h
  · rw [sb_cap, if_pos h]
    exact hm
  · exact h.2.2
theorem sb_at {P : Int32 → Prop} {x y : Int32} (e : x = y) (h : P y) : P x := e ▸ h
def sb_dg (w : Nat) : Nat := if w < 10 then 1 else if w < 100 then 2 else if w < 1000 then 3 else if w < 10000 then 4 else if w < 100000 then 5 else if w < 1000000 then 6 else if w < 10000000 then 7 else if w < 100000000 then 8 else if w < 1000000000 then 9 else 10
def sb_dec (v : Nat) : Nat → Nat := fun i => 48 + v / 10 ^ (sb_dg v - 1 - i) % 10
theorem sb_dg_in (w : Nat) : 1 ≤ sb_dg w ∧ sb_dg w ≤ 10 := by
  unfold sb_dg
  constructor <;> (repeat' split) <;> omega
theorem sb_dg100 {w : Nat} (h : 100 ≤ w) (hw : w < 2 ^ 31) : sb_dg w = sb_dg (w / 100) + 2 := by
  rw [sb_dg, sb_dg, if_neg (show ¬ w < 10 by omega), if_neg (show ¬ w < 100 by omega)]
  by_cases h3 : w < 1000
  · rw [if_pos h3, if_pos (show w / 100 < 10 by omega)]
  rw [if_neg h3, if_neg (show ¬ w / 100 < 10 by omega)]
  by_cases h4 : w < 10000
  · rw [if_pos h4, if_pos (show w / 100 < 100 by omega)]
  rw [if_neg h4, if_neg (show ¬ w / 100 < 100 by omega)]
  by_cases h5 : w < 100000
  · rw [if_pos h5, if_pos (show w / 100 < 1000 by omega)]
  rw [if_neg h5, if_neg (show ¬ w / 100 < 1000 by omega)]
  by_cases h6 : w < 1000000
  · rw [if_pos h6, if_pos (show w / 100 < 10000 by omega)]
  rw [if_neg h6, if_neg (show ¬ w / 100 < 10000 by omega)]
  by_cases h7 : w < 10000000
  · rw [if_pos h7, if_pos (show w / 100 < 100000 by omega)]
  rw [if_neg h7, if_neg (show ¬ w / 100 < 100000 by omega)]
  by_cases h8 : w < 100000000
  · rw [if_pos h8, if_pos (show w / 100 < 1000000 by omega)]
  rw [if_neg h8, if_neg (show ¬ w / 100 < 1000000 by omega)]
  by_cases h9 : w < 1000000000
  · rw [if_pos h9, if_pos (show w / 100 < 10000000 by omega)]
  rw [if_neg h9, if_neg (show ¬ w / 100 < 10000000 by omega)]
  rw [if_pos (show w / 100 < 100000000 by omega)]
theorem sb_negT {w : Nat} (h : w < 2 ^ 31) : (-nI w).toInt = -(w : Int) := by
  rw [Int32.toInt_neg, nI_toInt h]
  exact Int.bmod_eq_of_le (by omega) (by omega)
theorem sb_nle {a b : Nat} (ha : a < 2 ^ 31) (hb : b < 2 ^ 31) : -nI a ≤ -nI b ↔ b ≤ a := by
  rw [Int32.le_iff_toInt_le, sb_negT ha, sb_negT hb]
  omega
theorem sb_nlt {a b : Nat} (ha : a < 2 ^ 31) (hb : b < 2 ^ 31) : -nI a < -nI b ↔ b < a := by
  rw [Int32.lt_iff_toInt_lt, sb_negT ha, sb_negT hb]
  omega
theorem sb_cmp {A B : Prop} {x : Int32} (v c : Nat) (f : c ≤ v → A) (g : v < c → B) (hv : v < 2 ^ 31) (hx : x = -nI c := by rfl) (hc : c < 2 ^ 31 := by omega) : (-nI v ≤ x → A) ∧ (¬ -nI v ≤ x → B) := by
  subst hx
  rw [sb_nle hv hc]
  exact ⟨f, fun z => g (by omega)⟩
theorem sb_ndiv {w : Nat} (hw : w < 2 ^ 31) : (-nI w) / 100 = -nI (w / 100) := by
  apply Int32.toInt_inj.mp
  have h100 : (100 : Int32).toInt = 100 := by decide
  rw [Int32.toInt_div, sb_negT hw, h100, sb_negT (by omega), Int.neg_tdiv, Int.tdiv_eq_ediv_of_nonneg (by omega), Int.bmod_eq_of_le (by omega) (by omega)]
  omega
theorem sb_nrem {w : Nat} (hw : w < 2 ^ 31) : (-nI (w / 100)) * 100 - (-nI w) = nI (w % 100) := by
  have h := pk_rem (a := w) (d := 100) hw (by decide) (by decide)
  rw [pk_div hw (by decide) (by decide)] at h
  rw [← h]
  show (-nI (w / 100)) * nI 100 - (-nI w) = nI w - nI (w / 100) * nI 100
  rw [Int32.neg_mul, Int32.sub_neg, Int32.add_comm, ← Int32.sub_eq_add_neg]
end
section
/-! the shape of a tree as a lattice path k: slot i is inner if k (i+1) = k i + 1, a leaf if k (i+1) = k i -/
section
variable {M : Nat} {k R W wt : Nat → Nat}
def hu_up (f : Nat → Nat) (p v : Nat) : Nat → Nat := fun i => if i = p then v else f i
theorem hu_up_s {f : Nat → Nat} {p v : Nat} : hu_up f p v p = v := if_pos rfl
theorem hu_up_n {f : Nat → Nat} {p v i : Nat} (h : i ≠ p) : hu_up f p v i = f i := if_neg h
theorem hu_up_e (f : Nat → Nat) (p v i : Nat) : hu_up f p v i = if i = p then v else f i := rfl
def hu_sh (M : Nat) (k : Nat → Nat) : Prop := k 0 = 0 ∧ k (2 * M + 1) = M ∧ ∀ i, i < 2 * M + 1 → k (i + 1) = k i ∨ k (i + 1) = k i + 1
def hu_so (M : Nat) (W : Nat → Nat) : Prop := ∀ i, i < 2 * M → W (i + 1) ≤ W i
def hu_ti (M : Nat) (k W : Nat → Nat) : Prop := ∀ i, i < 2 * M → k (i + 1) = k i → k (i + 2) = k (i + 1) + 1 → W (i + 1) < W i
def hu_ps (M : Nat) (k : Nat → Nat) : Prop := ∀ i, i < 2 * M + 1 → k (i + 1) = k i + 1 → i ≤ 2 * k i
def hu_su (M : Nat) (k W d : Nat → Nat) : Prop := ∀ i, i < 2 * M + 1 → k (i + 1) = k i + 1 → W i + d (k i) = W (2 * k i + 1) + W (2 * k i + 2)
def hu_lw (wt : Nat → Nat) (r : Nat) : Nat := if r = 100 then 0 else wt r
def hu_le (M : Nat) (k R W wt : Nat → Nat) : Prop := ∀ i, i < 2 * M + 1 → k (i + 1) = k i → W i = hu_lw wt (R (i - k i))
def hu_df (q : Nat) : Nat → Nat := fun t => if q ≠ 0 ∧ t = (q - 1) / 2 then 1 else 0
theorem hu_mono (h : hu_sh M k) : ∀ d i, i + d ≤ 2 * M + 1 → k i ≤ k (i + d) ∧ k (i + d) ≤ k i + d := by
  intro d
  induction d with
  | zero => intro i _; exact ⟨Nat.le_refl _, Nat.le_refl _⟩
  | succ d ih =>
    intro i hi
    have a := ih i (by omega)
    have b := h.2.2 (i + d) (by omega)
    have e : i + (d + 1) = i + d + 1 := rfl
    rw [e]
    omega
theorem hu_mo (h : hu_sh M k) {i j : Nat} (hij : i ≤ j) (hj : j ≤ 2 * M + 1) : k i ≤ k j ∧ k j ≤ k i + (j - i) := by
  have a := hu_mono h (j - i) i (by omega)
  have e : i + (j - i) = j := by omega
  rw [e] at a
  exact a
theorem hu_kid (h : hu_sh M k) {i : Nat} (hi : i ≤ 2 * M + 1) : k i ≤ i ∧ k i ≤ M ∧ i ≤ M + 1 + k i := by
  have a := hu_mo h (Nat.zero_le i) hi
  have b := hu_mo h hi (Nat.le_refl _)
  have c := h.1
  have d := h.2.1
  omega
theorem hu_inM (h : hu_sh M k) {i : Nat} (hi : i < 2 * M + 1) (hin : k (i + 1) = k i + 1) : k i < M := by
  have a := (hu_kid h (i := i + 1) (by omega)).2.1
  omega
theorem hu_lfM (h : hu_sh M k) {i : Nat} (hi : i < 2 * M + 1) (hl : k (i + 1) = k i) : i - k i ≤ M := by
  have a := (hu_kid h (i := i + 1) (by omega)).2.2
  omega
theorem hu_exIn (h : hu_sh M k) : ∀ n, n ≤ 2 * M + 1 → ∀ t, t < k n → ∃ i, i < n ∧ k i = t ∧ k (i + 1) = t + 1 := by
  intro n
  induction n with
  | zero => intro _ t ht; have := h.1; omega
  | succ n ih =>
    intro hn t ht
    have b := h.2.2 n (by omega)
    by_cases c : t < k n
    · obtain ⟨i, h1, h2, h3⟩ := ih (by omega) t c
      exact ⟨i, by omega, h2, h3⟩
    · exact ⟨n, by omega, by omega, by omega⟩
theorem hu_exLf (h : hu_sh M k) : ∀ n, n ≤ 2 * M + 1 → ∀ j, j + k n < n → ∃ i, i < n ∧ k (i + 1) = k i ∧ i = j + k i := by
  intro n
  induction n with
  | zero => intro _ j hj; omega
  | succ n ih =>
    intro hn j hj
    have b := h.2.2 n (by omega)
    by_cases c : j + k n < n
    · obtain ⟨i, h1, h2, h3⟩ := ih (by omega) j c
      exact ⟨i, by omega, h2, h3⟩
    · exact ⟨n, by omega, by omega, by omega⟩
theorem hu_inU (h : hu_sh M k) {i j : Nat} (hi : i < 2 * M + 1) (hj : j < 2 * M + 1) (a : k (i + 1) = k i + 1) (b : k (j + 1) = k j + 1) (e : k i = k j) : i = j := by
  rcases Nat.lt_trichotomy i j with c | c | c
  · have := (hu_mo h (i := i + 1) (j := j) (by omega) (by omega)).1; omega
  · exact c
  · have := (hu_mo h (i := j + 1) (j := i) (by omega) (by omega)).1; omega
theorem hu_lfU (h : hu_sh M k) {i j : Nat} (hi : i < 2 * M + 1) (hj : j < 2 * M + 1) (a : k (i + 1) = k i) (b : k (j + 1) = k j) (e : i - k i = j - k j) : i = j := by
  have x := (hu_kid h (i := i) (by omega)).1
  have y := (hu_kid h (i := j) (by omega)).1
  rcases Nat.lt_trichotomy i j with c | c | c
  · have := (hu_mo h (i := i + 1) (j := j) (by omega) (by omega)).2; omega
  · exact c
  · have := (hu_mo h (i := j + 1) (j := i) (by omega) (by omega)).2; omega
theorem hu_sof1 (h : hu_so M W) : ∀ d i, i + d ≤ 2 * M → W (i + d) ≤ W i := by
  intro d
  induction d with
  | zero => intro i _; exact Nat.le_refl _
  | succ d ih =>
    intro i hi
    have a := ih i (by omega)
    have b := h (i + d) (by omega)
    have e : i + (d + 1) = i + d + 1 := rfl
    rw [e]
    omega
theorem hu_sof (h : hu_so M W) {i j : Nat} (hij : i ≤ j) (hj : j ≤ 2 * M) : W j ≤ W i := by
  have a := hu_sof1 h (j - i) i (by omega)
  have e : i + (j - i) = j := by omega
  rw [e] at a
  exact a
theorem hu_tif1 (hs : hu_sh M k) (h : hu_so M W) (ht : hu_ti M k W) : ∀ d i, i + d + 1 ≤ 2 * M → k (i + 1) = k i → k (i + d + 2) = k (i + d + 1) + 1 → W (i + d + 1) < W i := by
  intro d
  induction d with
  | zero => intro i hi a b; exact ht i (by omega) a b
  | succ d ih =>
    intro i hi a b
    rcases hs.2.2 (i + 1) (by omega) with c | c
    · have e1 : i + (d + 1) + 1 = i + 1 + d + 1 := by omega
      have e2 : i + (d + 1) + 2 = i + 1 + d + 2 := by omega
      rw [e1, e2] at b
      have x := ih (i + 1) (by omega) c b
      have y := h i (by omega)
      rw [e1]
      omega
    · have x := ht i (by omega) a c
      have y := hu_sof h (i := i + 1) (j := i + (d + 1) + 1) (by omega) (by omega)
      omega
theorem hu_tif (hs : hu_sh M k) (h : hu_so M W) (ht : hu_ti M k W) {i j : Nat} (hij : i < j) (hj : j ≤ 2 * M) (a : k (i + 1) = k i) (b : k (j + 1) = k j + 1) : W j < W i := by
  have e : i + (j - i - 1) + 1 = j := by omega
  have e2 : i + (j - i - 1) + 2 = j + 1 := by omega
  have x := hu_tif1 hs h ht (j - i - 1) i (by omega) a (by rw [e, e2]; exact b)
  rw [e] at x
  exact x
theorem hu_last (hs : hu_sh M k) (hp : hu_ps M k) : k (2 * M) = M := by
  rcases hs.2.2 (2 * M) (by omega) with c | c
  · have := hs.2.1; omega
  · have a := hp (2 * M) (by omega) c
    have := hs.2.1
    omega
theorem hu_last2 (hs : hu_sh M k) (hp : hu_ps M k) (hM : 1 ≤ M) : k (2 * M - 1) = M := by
  have l := hu_last hs hp
  have e : 2 * M - 1 + 1 = 2 * M := by omega
  rcases hs.2.2 (2 * M - 1) (by omega) with c | c
  · rw [e] at c; omega
  · have a := hp (2 * M - 1) (by omega) c
    rw [e] at c
    omega
/-- the root is inner unless it is all -/
theorem hu_root (hs : hu_sh M k) (hp : hu_ps M k) (hM : 1 ≤ M) : k 1 = 1 := by
  obtain ⟨i, h1, h2, h3⟩ := hu_exIn hs (2 * M + 1) (Nat.le_refl _) 0 (by rw [hs.2.1]; omega)
  have a := hp i h1 (by omega)
  have e : i = 0 := by omega
  subst e
  exact h3
end
end
section
/-! the passes of an update, pure: a leaf slides past inner nodes, a weight rises, an inner node slides past leaves -/
section
variable {M n : Nat} {k R W wt : Nat → Nat}
/-- the tree's laws but for the sum at q's parent, which is one behind -/
def hu_CI (M : Nat) (R wt k W : Nat → Nat) (q n : Nat) : Prop :=
  hu_sh M k ∧ hu_ps M k ∧ hu_so M W ∧ hu_ti M k W ∧ hu_su M k W (hu_df q) ∧ hu_le M k R W wt ∧ q < 2 * M + 1 ∧ (q ≠ 0 → W 0 + 1 ≤ n) ∧ W 0 ≤ n
/-- a leaf of weight w (its place in the row is jl) on its way from slot to slot, now at p -/
def hu_SL (M : Nat) (R wt W : Nat → Nat) (w jl : Nat) (k : Nat → Nat) (p : Nat) : Prop :=
  hu_sh M k ∧ hu_ps M k ∧ hu_so M W ∧ hu_su M k W (hu_df 0) ∧ hu_le M k R W wt ∧ p < 2 * M + 1 ∧ k (p + 1) = k p ∧ p - k p = jl ∧ W p = w ∧ 1 ≤ w
  ∧ (∀ i, i < 2 * M → i ≠ p → k (i + 1) = k i → k (i + 2) = k (i + 1) + 1 → W (i + 1) < W i)
  ∧ (∀ i, i < p → k (i + 1) = k i → w < W i) ∧ (p < 2 * M → 1 ≤ W (p + 1))
theorem hu_df0 (t : Nat) : hu_df 0 t = 0 := by unfold hu_df; rw [if_neg (fun h => h.1 rfl)]
theorem hu_SL_step {w jl m : Nat} (h : hu_SL M R wt W w jl k (m + 1)) (hin : k (m + 1) = k m + 1) (hw : W m = w) : hu_SL M R wt W w jl (hu_up k (m + 1) (k m)) m := by
  obtain ⟨hs, hp, ho, hu, hl, h1, h2, h3, h4, h5, ht, hb, hq⟩ := h
  have tM := hu_inM hs (i := m) (by omega) hin
  have kid := hu_kid hs (i := m) (by omega)
  have sm := hu m (by omega) hin
  rw [hu_df0] at sm
  have pm := hp m (by omega) hin
  -- the parent at m isn't the parent of m + 1
  have ne : m ≠ 2 * k m := by
    intro e
    have q1 := hq (by omega)
    have e9 : m + 1 + 1 = m + 2 := rfl
    rw [e9] at q1
    rw [← e] at sm
    omega
  refine ⟨⟨?_, ?_, ?_⟩, ?_, ho, ?_, ?_, by omega, ?_, ?_, hw, h5, ?_, ?_, ?_⟩
  · rw [hu_up_n (by omega)]; exact hs.1
  · rw [hu_up_n (by omega)]; exact hs.2.1
  · intro i hi
    have a := hs.2.2 i hi
    by_cases c : i = m + 1
    · subst c
      rw [hu_up_s, hu_up_n (by omega)]
      right; omega
    · by_cases d : i = m
      · subst d
        rw [hu_up_s, hu_up_n (by omega)]
        left; rfl
      · rw [hu_up_n (by omega), hu_up_n (by omega)]
        exact a
  · intro i hi
    by_cases c : i = m + 1
    · subst c
      rw [hu_up_s, hu_up_n (by omega)]
      intro _
      omega
    · by_cases d : i = m
      · subst d
        rw [hu_up_s, hu_up_n (by omega)]
        intro; omega
      · rw [hu_up_n (by omega), hu_up_n (by omega)]
        exact hp i hi
  · intro i hi
    by_cases c : i = m + 1
    · subst c
      rw [hu_up_s, hu_up_n (by omega)]
      intro _
      rw [hu_df0]
      omega
    · by_cases d : i = m
      · subst d
        rw [hu_up_s, hu_up_n (by omega)]
        intro; omega
      · rw [hu_up_n (by omega), hu_up_n (by omega)]
        exact hu i hi
  · intro i hi
    by_cases c : i = m + 1
    · subst c
      rw [hu_up_s, hu_up_n (by omega)]
      intro; omega
    · by_cases d : i = m
      · subst d
        rw [hu_up_s, hu_up_n (by omega)]
        intro _
        have x := hl (i + 1) (by omega) h2
        have e : i + 1 - k (i + 1) = i - k i := by omega
        rw [e] at x
        omega
      · rw [hu_up_n (by omega), hu_up_n (by omega)]
        exact hl i hi
  · rw [hu_up_s, hu_up_n (by omega)]
  · rw [hu_up_n (by omega)]; omega
  · intro i hi hne
    by_cases c : i = m + 1
    · subst c
      rw [hu_up_n (i := m + 1 + 2) (by omega), hu_up_n (i := m + 1 + 1) (by omega), hu_up_s]
      intro; omega
    · by_cases d : i + 1 = m
      · subst d
        rw [hu_up_n (i := i) (by omega), hu_up_n (i := i + 1) (by omega), hu_up_s]
        intro; omega
      · rw [hu_up_n (i := i) (by omega), hu_up_n (i := i + 1) (by omega), hu_up_n (i := i + 2) (by omega)]
        exact ht i hi c
  · intro i hi
    rw [hu_up_n (by omega), hu_up_n (by omega)]
    exact hb i (by omega)
  · intro _
    omega
/-- where the leaf stops, its weight may rise -/
theorem hu_SL_end {w jl p s : Nat} (h : hu_SL M R wt W w jl k p) (hx : p = 0 ∨ k p = k (p - 1) ∨ W (p - 1) ≠ w)
    (hR : R jl = s) (hs100 : s ≠ 100) (hinj : ∀ a b, a ≤ M → b ≤ M → R a = R b → a = b) (hn : W 0 ≤ n) :
    hu_CI M R (hu_up wt s (w + 1)) k (hu_up W p (w + 1)) p (n + 1) := by
  obtain ⟨hs, hp, ho, hu, hl, h1, h2, h3, h4, h5, ht, hb, hq⟩ := h
  have lead : ∀ m, p = m + 1 → w + 1 ≤ W m := by
    intro m e
    subst e
    have o := ho m (by omega)
    rcases hs.2.2 m (by omega) with c | c
    · exact hb m (by omega) c
    · rcases hx with x | x | x
      · omega
      · rw [Nat.add_sub_cancel] at x; omega
      · rw [Nat.add_sub_cancel] at x; omega
  refine ⟨hs, hp, ?_, ?_, ?_, ?_, h1, ?_, ?_⟩
  · intro i hi
    have o := ho i hi
    by_cases c : i = p
    · subst c
      rw [hu_up_s, hu_up_n (by omega)]
      omega
    · by_cases d : i + 1 = p
      · rw [← d, hu_up_s, hu_up_n (by omega)]
        exact lead i d.symm
      · rw [hu_up_n (by omega), hu_up_n (by omega)]
        exact o
  · intro i hi a b
    have o := ho i hi
    by_cases c : i = p
    · subst c
      rw [hu_up_s, hu_up_n (by omega)]
      omega
    · by_cases d : i + 1 = p
      · subst d
        exfalso
        have e : i + 1 + 1 = i + 2 := rfl
        rw [e] at h2
        omega
      · rw [hu_up_n (by omega), hu_up_n (by omega)]
        exact ht i hi c a b
  · intro i hi a
    have x := hu i hi a
    rw [hu_df0] at x
    have ne : i ≠ p := by intro e; subst e; omega
    have pi := hp i hi a
    rw [hu_up_n ne]
    unfold hu_df
    by_cases c : 2 * k i + 1 = p
    · rw [c, hu_up_s, hu_up_n (by omega), if_pos ⟨by omega, by omega⟩]
      rw [c] at x
      omega
    · by_cases d : 2 * k i + 2 = p
      · rw [d, hu_up_s, hu_up_n (by omega), if_pos ⟨by omega, by omega⟩]
        rw [d] at x
        omega
      · rw [hu_up_n c, hu_up_n d, if_neg (by omega)]
        exact x
  · intro i hi a
    have x := hl i hi a
    by_cases c : i = p
    · subst c
      rw [hu_up_s, h3, hR]
      unfold hu_lw
      rw [if_neg hs100, hu_up_s]
    · rw [hu_up_n c, x]
      have e : R (i - k i) ≠ s := by
        intro e
        have f := hinj (i - k i) jl (hu_lfM hs hi a) (by rw [← h3]; exact hu_lfM hs h1 h2) (by rw [e, hR])
        exact c (hu_lfU hs hi h1 a h2 (by omega))
      unfold hu_lw
      rw [hu_up_n e]
  · intro z
    rw [hu_up_n (by omega)]
    omega
  · by_cases z : p = 0
    · subst z
      rw [hu_up_s]
      omega
    · rw [hu_up_n (by omega)]
      omega
/-- an inner node, raised at z, on its way up, now at y -/
def hu_SI (M : Nat) (R wt W : Nat → Nat) (z n : Nat) (k : Nat → Nat) (y : Nat) : Prop :=
  hu_sh M k ∧ hu_ps M k ∧ hu_so M W ∧ hu_su M k W (hu_df z) ∧ hu_le M k R W wt ∧ z < 2 * M + 1 ∧ y ≤ z ∧ k (y + 1) = k y + 1 ∧ W y = W z
  ∧ (∀ i, i < 2 * M → i + 1 ≠ y → k (i + 1) = k i → k (i + 2) = k (i + 1) + 1 → W (i + 1) < W i)
  ∧ (∀ i, y < i → i ≤ z → k (i + 1) = k i) ∧ (z < 2 * M → k (z + 2) = k (z + 1) + 1 → W (z + 1) < W z)
  ∧ (z ≠ 0 → W 0 + 1 ≤ n) ∧ W 0 ≤ n
theorem hu_SI_step {z m : Nat} (h : hu_SI M R wt W z n k (m + 1)) (hlf : k (m + 1) = k m) (hw : W m = W z) : hu_SI M R wt W z n (hu_up k (m + 1) (k m + 1)) m := by
  obtain ⟨hs, hp, ho, hu, hl, h1, h2, h3, h4, ht, hb, hq, hn1, hn2⟩ := h
  have pm := hp (m + 1) (by omega) h3
  have sm := hu (m + 1) (by omega) h3
  have kid := hu_kid hs (i := m) (by omega)
  refine ⟨⟨?_, ?_, ?_⟩, ?_, ho, ?_, ?_, h1, by omega, ?_, hw, ?_, ?_, ?_, hn1, hn2⟩
  · rw [hu_up_n (by omega)]; exact hs.1
  · rw [hu_up_n (by omega)]; exact hs.2.1
  · intro i hi
    have a := hs.2.2 i hi
    by_cases c : i = m + 1
    · subst c
      rw [hu_up_s, hu_up_n (by omega)]
      left; omega
    · by_cases d : i = m
      · subst d
        rw [hu_up_s, hu_up_n (by omega)]
        right; rfl
      · rw [hu_up_n (by omega), hu_up_n (by omega)]
        exact a
  · intro i hi
    by_cases c : i = m + 1
    · subst c
      rw [hu_up_s, hu_up_n (by omega)]
      intro _
      omega
    · by_cases d : i = m
      · subst d
        rw [hu_up_s, hu_up_n (by omega)]
        intro _; omega
      · rw [hu_up_n (by omega), hu_up_n (by omega)]
        exact hp i hi
  · intro i hi
    by_cases c : i = m + 1
    · subst c
      rw [hu_up_s, hu_up_n (by omega)]
      intro _; omega
    · by_cases d : i = m
      · subst d
        rw [hu_up_s, hu_up_n (by omega)]
        intro _
        rw [hlf] at sm
        omega
      · rw [hu_up_n (by omega), hu_up_n (by omega)]
        exact hu i hi
  · intro i hi
    by_cases c : i = m + 1
    · subst c
      rw [hu_up_s, hu_up_n (by omega)]
      intro _
      have x := hl m (by omega) hlf
      have e : m + 1 - (k m + 1) = m - k m := by omega
      rw [e]
      omega
    · by_cases d : i = m
      · subst d
        rw [hu_up_s, hu_up_n (by omega)]
        intro; omega
      · rw [hu_up_n (by omega), hu_up_n (by omega)]
        exact hl i hi
  · rw [hu_up_s, hu_up_n (by omega)]
  · intro i hi hne
    by_cases c : i = m + 1
    · subst c
      rw [hu_up_n (i := m + 1 + 2) (by omega), hu_up_n (i := m + 1 + 1) (by omega), hu_up_s]
      intro _ b
      by_cases f : m + 1 = z
      · rw [f] at b ⊢
        exact hq (by omega) b
      · have := hb (m + 1 + 1) (by omega) (by omega)
        have e : m + 1 + 1 + 1 = m + 1 + 2 := rfl
        rw [e] at this
        omega
    · by_cases d : i = m
      · subst d
        rw [hu_up_n (i := i) (by omega), hu_up_s]
        intro; omega
      · rw [hu_up_n (i := i) (by omega), hu_up_n (i := i + 1) (by omega), hu_up_n (i := i + 2) (by omega)]
        exact ht i hi (by omega)
  · intro i h5 h6
    by_cases c : i = m + 1
    · subst c
      rw [hu_up_s, hu_up_n (by omega)]
      omega
    · rw [hu_up_n (by omega), hu_up_n (by omega)]
      exact hb i (by omega) h6
  · intro h5
    rw [hu_up_n (by omega)]
    by_cases c : z = m
    · omega
    · rw [hu_up_n (by omega)]
      exact hq h5
theorem hu_SI_end {z y : Nat} (h : hu_SI M R wt W z n k y) (hx : y = 0 ∨ k y = k (y - 1) + 1 ∨ W (y - 1) ≠ W z) : hu_CI M R wt k W z n := by
  obtain ⟨hs, hp, ho, hu, hl, h1, h2, h3, h4, ht, hb, hq, hn1, hn2⟩ := h
  refine ⟨hs, hp, ho, ?_, hu, hl, h1, hn1, hn2⟩
  intro i hi a b
  by_cases c : i + 1 = y
  · subst c
    have o := ho i hi
    rcases hx with x | x | x
    · omega
    · rw [Nat.add_sub_cancel] at x; omega
    · rw [Nat.add_sub_cancel] at x; omega
  · exact ht i hi c a b
/-- one step of the climb: the parent's weight rises -/
theorem hu_CI_up {q z : Nat} (h : hu_CI M R wt k W q n) (hq0 : q ≠ 0) (hz : z < 2 * M + 1) (hin : k (z + 1) = k z + 1) (hk : k z = (q - 1) / 2) :
    z < q ∧ hu_SI M R wt (hu_up W z (W z + 1)) z n k z := by
  obtain ⟨hs, hp, ho, ht, hu, hl, h1, hn1, hn2⟩ := h
  have pz := hp z hz hin
  have sz := hu z hz hin
  have tM := hu_inM hs hz hin
  have dz : hu_df q (k z) = 1 := if_pos ⟨hq0, hk⟩
  rw [dz] at sz
  have zq : z < q := by omega
  have o1 := ho (2 * k z + 1) (by omega)
  have lead : ∀ m, z = m + 1 → W z + 1 ≤ W m := by
    intro m e
    subst e
    rcases hs.2.2 m (by omega) with c | c
    · exact ht m (by omega) c hin
    · have x := hu m (by omega) c
      have d0 : hu_df q (k m) = 0 := if_neg (by omega)
      rw [d0] at x
      have o2 := hu_sof ho (i := 2 * k m + 1) (j := 2 * k (m + 1) + 1) (by omega) (by omega)
      have o3 := hu_sof ho (i := 2 * k m + 2) (j := 2 * k (m + 1) + 1) (by omega) (by omega)
      have e1 : 2 * k (m + 1) + 1 + 1 = 2 * k (m + 1) + 2 := rfl
      rw [e1] at o1
      omega
  refine ⟨zq, hs, hp, ?_, ?_, ?_, hz, Nat.le_refl _, hin, rfl, ?_, ?_, ?_, ?_, ?_⟩
  · intro i hi
    have o := ho i hi
    by_cases c : i = z
    · subst c
      rw [hu_up_s, hu_up_n (by omega)]
      omega
    · by_cases d : i + 1 = z
      · rw [d, hu_up_s, hu_up_n (by omega)]
        exact lead i d.symm
      · rw [hu_up_n (by omega), hu_up_n (by omega)]
        exact o
  · intro i hi a
    by_cases c : i = z
    · subst c
      rw [hu_up_s, hu_up_n (by omega), hu_up_n (by omega)]
      have d0 : hu_df i (k i) = 0 := if_neg (by omega)
      omega
    · have x := hu i hi a
      have kn : k i ≠ k z := fun e => c (hu_inU hs hi hz a hin e)
      have d0 : hu_df q (k i) = 0 := if_neg (by omega)
      rw [d0] at x
      rw [hu_up_n c]
      unfold hu_df
      by_cases e1 : 2 * k i + 1 = z
      · rw [e1, hu_up_s, hu_up_n (by omega), if_pos ⟨by omega, by omega⟩]
        rw [e1] at x
        omega
      · by_cases e2 : 2 * k i + 2 = z
        · rw [e2, hu_up_s, hu_up_n (by omega), if_pos ⟨by omega, by omega⟩]
          rw [e2] at x
          omega
        · rw [hu_up_n e1, hu_up_n e2, if_neg (by omega)]
          exact x
  · intro i hi a
    rw [hu_up_n (by intro e; subst e; omega)]
    exact hl i hi a
  · intro i hi hne a b
    by_cases c : i = z
    · subst c; omega
    · rw [hu_up_n (by omega), hu_up_n c]
      exact ht i hi a b
  · intro i a b; omega
  · intro hz2 _
    rw [hu_up_s, hu_up_n (by omega)]
    have := ho z hz2
    omega
  · intro z0
    rw [hu_up_n (by omega)]
    exact hn1 hq0
  · by_cases z0 : z = 0
    · subst z0
      rw [hu_up_s]
      exact hn1 hq0
    · rw [hu_up_n (by omega)]
      exact hn2
/-- the first step beside E: the leaf at 2M-1 and its parent at 2M-2 rise together -/
theorem hu_BE {w s : Nat} (h : hu_CI M R wt k W 0 n) (hM : 1 ≤ M) (hz : k (2 * M - 2) = M - 1) (hwz : W (2 * M - 2) = w) (hwp : W (2 * M - 1) = w) (hwe : W (2 * M) = 0)
    (hR : R (M - 1) = s) (hs100 : s ≠ 100) (hinj : ∀ a b, a ≤ M → b ≤ M → R a = R b → a = b) (hb : ∀ i, i < 2 * M - 2 → w + 1 ≤ W i) :
    hu_SI M R (hu_up wt s (w + 1)) (hu_up (hu_up W (2 * M - 1) (w + 1)) (2 * M - 2) (w + 1)) (2 * M - 2) (n + 1) k (2 * M - 2) := by
  obtain ⟨hs, hp, ho, ht, hu, hl, h1, hn1, hn2⟩ := h
  have l0 := hu_last hs hp
  have l1 := hu_last2 hs hp hM
  have l2 := hs.2.1
  obtain ⟨m, rfl⟩ : ∃ m, M = m + 1 := ⟨M - 1, by omega⟩
  have e2 : 2 * (m + 1) - 2 = 2 * m := by omega
  have e1 : 2 * (m + 1) - 1 = 2 * m + 1 := by omega
  have e0 : 2 * (m + 1) = 2 * m + 2 := by omega
  have em : m + 1 - 1 = m := by omega
  rw [e2] at hz hwz hb
  rw [e1] at hwp l1
  rw [e0] at hwe l0 l2
  rw [em] at hz hR
  rw [e1, e2]
  have V : ∀ i, i ≠ 2 * m → i ≠ 2 * m + 1 → hu_up (hu_up W (2 * m + 1) (w + 1)) (2 * m) (w + 1) i = W i := fun i a b => by rw [hu_up_n a, hu_up_n b]
  have V0 : hu_up (hu_up W (2 * m + 1) (w + 1)) (2 * m) (w + 1) (2 * m) = w + 1 := hu_up_s
  have V1 : hu_up (hu_up W (2 * m + 1) (w + 1)) (2 * m) (w + 1) (2 * m + 1) = w + 1 := by rw [hu_up_n (by omega), hu_up_s]
  generalize hu_up (hu_up W (2 * m + 1) (w + 1)) (2 * m) (w + 1) = V' at *
  refine ⟨hs, hp, ?_, ?_, ?_, by omega, Nat.le_refl _, by omega, rfl, ?_, ?_, ?_, ?_, ?_⟩
  · intro i hi
    have o := ho i hi
    by_cases c : i = 2 * m
    · subst c; omega
    · by_cases d : i = 2 * m + 1
      · subst d
        rw [V1, V (2 * m + 1 + 1) (by omega) (by omega)]
        have e : 2 * m + 1 + 1 = 2 * m + 2 := rfl
        rw [e]
        omega
      · by_cases f : i + 1 = 2 * m
        · rw [f, V0, V i c d]
          exact hb i (by omega)
        · rw [V i c d, V (i + 1) f (by omega)]
          exact o
  · intro i hi a
    by_cases c : i = 2 * m
    · subst c
      rw [hz, V0, V1, V (2 * m + 2) (by omega) (by omega), hwe]
      have d0 : hu_df (2 * m) m = 0 := if_neg (by omega)
      omega
    · have x := hu i hi a
      have kn : k i ≠ k (2 * m) := fun e => c (hu_inU hs hi (by omega) a (by omega) e)
      have kM := hu_inM hs hi a
      have ni : i ≠ 2 * m + 1 := by
        intro e; subst e
        have ee : 2 * m + 1 + 1 = 2 * m + 2 := rfl
        rw [ee] at a; omega
      rw [hu_df0] at x
      rw [V i c ni]
      unfold hu_df
      by_cases f2 : 2 * k i + 2 = 2 * m
      · rw [f2, V0, V (2 * k i + 1) (by omega) (by omega), if_pos ⟨by omega, by omega⟩]
        rw [f2] at x
        omega
      · rw [V (2 * k i + 1) (by omega) (by omega), V (2 * k i + 2) (by omega) (by omega), if_neg (by omega)]
        exact x
  · intro i hi a
    have x := hl i hi a
    by_cases c : i = 2 * m + 1
    · subst c
      have e : 2 * m + 1 - k (2 * m + 1) = m := by omega
      rw [V1, e, hR]
      unfold hu_lw
      rw [if_neg hs100, hu_up_s]
    · have ni : i ≠ 2 * m := by intro e; subst e; omega
      rw [V i ni c, x]
      have e : R (i - k i) ≠ s := by
        intro e
        have f := hinj (i - k i) m (hu_lfM hs hi a) (by omega) (by rw [e, hR])
        have ee : 2 * m + 1 + 1 = 2 * m + 2 := rfl
        exact c (hu_lfU hs hi (by omega) a (by rw [ee]; omega) (by omega))
      unfold hu_lw
      rw [hu_up_n e]
  · intro i hi hne a b
    have ni : i ≠ 2 * m := by intro e; subst e; omega
    have nj : i ≠ 2 * m + 1 := by
      intro e; subst e
      have ee : 2 * m + 1 + 2 = 2 * (m + 1) + 1 := by omega
      have e3 : 2 * m + 1 + 1 = 2 * m + 2 := rfl
      rw [ee, e3, hs.2.1] at b; omega
    rw [V i ni nj, V (i + 1) hne (by omega)]
    exact ht i hi a b
  · intro i a b; omega
  · intro _ b
    have e3 : 2 * m + 1 + 1 = 2 * m + 2 := rfl
    omega
  · intro z0
    rw [V 0 (by omega) (by omega)]
    omega
  · by_cases z0 : m = 0
    · subst z0
      have o := hu_sof ho (i := 0) (j := 2 * 0) (by omega) (by omega)
      have e : 2 * 0 = 0 := rfl
      rw [e] at V0 hwz
      omega
    · rw [V 0 (by omega) (by omega)]
      omega
end
end
section
/-! the row of leaves from the heavy end (R 0 .. R M), the weights, and one update of them -/
section
variable {A M n : Nat} {k R W wt : Nat → Nat}
def hu_cz (wt : Nat → Nat) : Nat → Nat
  | 0 => 0
  | n + 1 => hu_cz wt n + (if wt n = 0 then 1 else 0)
theorem hu_cz_le (wt : Nat → Nat) : ∀ n, hu_cz wt n ≤ n := by
  intro n
  induction n with
  | zero => exact Nat.le_refl _
  | succ n ih =>
    show hu_cz wt n + (if wt n = 0 then 1 else 0) ≤ n + 1
    split <;> omega
theorem hu_cz_same {wt wt' : Nat → Nat} : ∀ n, (∀ x, x < n → (wt x = 0 ↔ wt' x = 0)) → hu_cz wt n = hu_cz wt' n := by
  intro n
  induction n with
  | zero => intro _; rfl
  | succ n ih =>
    intro h
    show hu_cz wt n + (if wt n = 0 then 1 else 0) = hu_cz wt' n + (if wt' n = 0 then 1 else 0)
    rw [ih (fun x hx => h x (by omega))]
    have a := h n (by omega)
    by_cases c : wt n = 0
    · rw [if_pos c, if_pos (a.mp c)]
    · rw [if_neg c, if_neg (fun z => c (a.mpr z))]
theorem hu_cz_set {s v : Nat} (hv : 1 ≤ v) (h0 : wt s = 0) : ∀ n, s < n → hu_cz (hu_up wt s v) n + 1 = hu_cz wt n := by
  intro n
  induction n with
  | zero => intro h; omega
  | succ n ih =>
    intro h
    show hu_cz (hu_up wt s v) n + (if hu_up wt s v n = 0 then 1 else 0) + 1 = hu_cz wt n + (if wt n = 0 then 1 else 0)
    by_cases c : n = s
    · subst c
      rw [hu_up_s, if_neg (by omega), if_pos h0]
      have e := hu_cz_same (wt := hu_up wt n v) (wt' := wt) n (fun x hx => by rw [hu_up_n (by omega)])
      omega
    · rw [hu_up_n c]
      have := ih (by omega)
      omega
theorem hu_cz_pos {x : Nat} (h0 : wt x = 0) : ∀ n, x < n → 1 ≤ hu_cz wt n := by
  intro n hn
  have := hu_cz_set (v := 1) (Nat.le_refl _) h0 n hn
  omega
theorem hu_cz_ex : ∀ n, 1 ≤ hu_cz wt n → ∃ x, x < n ∧ wt x = 0 := by
  intro n
  induction n with
  | zero => intro h; exact absurd h (by show ¬ 1 ≤ 0; omega)
  | succ n ih =>
    intro h
    by_cases c : wt n = 0
    · exact ⟨n, by omega, c⟩
    · have e : hu_cz wt (n + 1) = hu_cz wt n := by
        show hu_cz wt n + (if wt n = 0 then 1 else 0) = _
        rw [if_neg c]
        rfl
      obtain ⟨x, hx, h0⟩ := ih (by omega)
      exact ⟨x, by omega, h0⟩
/-- the laws of a row -/
def hu_ro (A M : Nat) (R wt : Nat → Nat) : Prop :=
  2 ≤ A ∧ A ≤ 32 ∧ (∀ a b, a ≤ M → b ≤ M → R a = R b → a = b) ∧ (∀ a, a < M → R a < A ∧ 1 ≤ wt (R a))
  ∧ ((R M = 100 ∧ M < A ∧ hu_cz wt A + M = A) ∨ (R M < A ∧ 1 ≤ wt (R M) ∧ M + 1 = A ∧ hu_cz wt A = 0))
  ∧ (∀ s, s < 32 → (∀ j, j ≤ M → R j ≠ s) → wt s = 0)
theorem hu_ro_M (h : hu_ro A M R wt) : M < A ∧ M < 32 := by
  obtain ⟨h1, h2, h3, h4, h5, h6⟩ := h
  omega
theorem hu_ro_sym (h : hu_ro A M R wt) {a : Nat} (ha : a ≤ M) (hn : R a ≠ 100) : R a < A ∧ R a < 32 ∧ 1 ≤ wt (R a) := by
  obtain ⟨h1, h2, h3, h4, h5, h6⟩ := h
  by_cases c : a = M
  · subst c
    rcases h5 with x | x
    · exact absurd x.1 hn
    · exact ⟨x.1, by omega, x.2.1⟩
  · have x := h4 a (by omega)
    exact ⟨x.1, by omega, x.2⟩
theorem hu_ro_val (h : hu_ro A M R wt) {a : Nat} (ha : a ≤ M) : R a = 100 ∨ R a < 32 := by
  by_cases c : R a = 100
  · exact Or.inl c
  · exact Or.inr (hu_ro_sym h ha c).2.1
theorem hu_ro_ex (h : hu_ro A M R wt) {s : Nat} (hs : s < 32) (hw : wt s ≠ 0) : ∃ j, j ≤ M ∧ R j = s := by
  by_cases c : ∃ j, j ≤ M ∧ R j = s
  · exact c
  · exact absurd (h.2.2.2.2.2 s hs (fun j hj e => c ⟨j, hj, e⟩)) hw
theorem hu_ro_un (h : hu_ro A M R wt) {s : Nat} (hs : s < 32) (hw : wt s = 0) : ∀ j, j ≤ M → R j ≠ s := by
  intro j hj e
  have := (hu_ro_sym h hj (by omega)).2.2
  rw [e] at this
  omega
def hu_lst (p : Nat → Bool) : Nat → Nat
  | 0 => 0
  | n + 1 => if p n = true then n else hu_lst p n
theorem hu_lst_spec {p : Nat → Bool} : ∀ n, (∃ i, i < n ∧ p i = true) → hu_lst p n < n ∧ p (hu_lst p n) = true ∧ ∀ j, j < n → hu_lst p n < j → p j = false := by
  intro n
  induction n with
  | zero => intro ⟨i, h, _⟩; omega
  | succ n ih =>
    intro ⟨i, h, hp⟩
    by_cases c : p n = true
    · have e : hu_lst p (n + 1) = n := if_pos c
      rw [e]
      exact ⟨by omega, c, fun j h1 h2 => by omega⟩
    · have e : hu_lst p (n + 1) = hu_lst p n := if_neg c
      rw [e]
      have ne : i ≠ n := by intro z; subst z; exact c hp
      obtain ⟨a, b, d⟩ := ih ⟨i, by omega, hp⟩
      refine ⟨by omega, b, fun j h1 h2 => ?_⟩
      by_cases f : j = n
      · subst f
        cases g : p j
        · rfl
        · exact absurd g c
      · exact d j (by omega) h2
theorem hu_lst_lt (p : Nat → Bool) : ∀ n, hu_lst p (n + 1) ≤ n := by
  intro n
  induction n with
  | zero => show (if p 0 = true then 0 else hu_lst p 0) ≤ 0; split <;> exact Nat.le_refl _
  | succ n ih =>
    show (if p (n + 1) = true then n + 1 else hu_lst p (n + 1)) ≤ n + 1
    split <;> omega
def hu_he (M : Nat) (R : Nat → Nat) (s : Nat) : Nat → Nat := hu_lst (fun i => decide (R (M - i) = s))
def hu_la (M : Nat) (R wt : Nat → Nat) (w : Nat) : Nat → Nat := hu_lst (fun i => decide (hu_lw wt (R (M - i)) = w))
/-- one update of the row and the weights, as the reference does it -/
def hu_us (A : Nat) (c : Nat × (Nat → Nat) × (Nat → Nat)) (s : Nat) : Nat × (Nat → Nat) × (Nat → Nat) :=
  if c.2.2 s = 0 then
    (if hu_cz (hu_up c.2.2 s 1) A = 0 then c.1 else c.1 + 1, hu_up (hu_up c.2.1 c.1 s) (c.1 + 1) 100, hu_up c.2.2 s 1)
  else
    (c.1, hu_up (hu_up c.2.1 (c.1 - hu_he c.1 c.2.1 s (c.1 + 1)) (c.2.1 (c.1 - hu_la c.1 c.2.1 c.2.2 (c.2.2 s) (c.1 + 1)))) (c.1 - hu_la c.1 c.2.1 c.2.2 (c.2.2 s) (c.1 + 1)) s, hu_up c.2.2 s (c.2.2 s + 1))
def hu_rp (A : Nat) (tx : Nat → Nat) : Nat → Nat × (Nat → Nat) × (Nat → Nat)
  | 0 => (0, fun _ => 100, fun _ => 0)
  | n + 1 => hu_us A (hu_rp A tx n) (tx n)
theorem hu_rp_same (A : Nat) {tx tx' : Nat → Nat} : ∀ n, (∀ i, i < n → tx' i = tx i) → hu_rp A tx' n = hu_rp A tx n := by
  intro n
  induction n with
  | zero => intro _; rfl
  | succ n ih =>
    intro h
    show hu_us A (hu_rp A tx' n) (tx' n) = hu_us A (hu_rp A tx n) (tx n)
    rw [ih (fun i hi => h i (by omega)), h n (by omega)]
/-- where s stands and where the first leaf of its weight stands -/
theorem hu_hl (h : hu_ro A M R wt) {s : Nat} (hs : s < 32) (hw : wt s ≠ 0) : ∃ jh jl, jl ≤ jh ∧ jh ≤ M ∧ R jh = s ∧ hu_lw wt (R jl) = wt s ∧ (∀ j, j < jl → hu_lw wt (R j) ≠ wt s)
    ∧ M - hu_he M R s (M + 1) = jh ∧ M - hu_la M R wt (wt s) (M + 1) = jl := by
  obtain ⟨jh, hj, hR⟩ := hu_ro_ex h hs hw
  have e1 := hu_lst_spec (p := fun i => decide (R (M - i) = s)) (M + 1) ⟨M - jh, by omega, by
    rw [decide_eq_true_iff]
    have e : M - (M - jh) = jh := by omega
    rw [e]
    exact hR⟩
  have e2 := hu_lst_spec (p := fun i => decide (hu_lw wt (R (M - i)) = wt s)) (M + 1) ⟨M - jh, by omega, by
    rw [decide_eq_true_iff]
    have e : M - (M - jh) = jh := by omega
    rw [e, hR]
    unfold hu_lw
    rw [if_neg (by omega)]⟩
  have f1 : hu_lst (fun i => decide (R (M - i) = s)) (M + 1) = hu_he M R s (M + 1) := rfl
  have f2 : hu_lst (fun i => decide (hu_lw wt (R (M - i)) = wt s)) (M + 1) = hu_la M R wt (wt s) (M + 1) := rfl
  rw [f1] at e1
  rw [f2] at e2
  generalize hu_he M R s (M + 1) = he at *
  generalize hu_la M R wt (wt s) (M + 1) = la at *
  obtain ⟨a1, a2, a3⟩ := e1
  obtain ⟨b1, b2, b3⟩ := e2
  rw [decide_eq_true_iff] at a2 b2
  have ejh : M - he = jh := h.2.2.1 (M - he) jh (by omega) hj (by rw [a2, hR])
  have least : ∀ j, j < M - la → hu_lw wt (R j) ≠ wt s := by
    intro j hj2
    have x := b3 (M - j) (by omega) (by omega)
    rw [decide_eq_false_iff_not] at x
    have e : M - (M - j) = j := by omega
    rw [e] at x
    exact x
  refine ⟨jh, M - la, ?_, hj, hR, b2, least, ejh, rfl⟩
  by_cases c : M - la ≤ jh
  · exact c
  · exfalso
    refine least jh (by omega) ?_
    rw [hR]
    unfold hu_lw
    rw [if_neg (by omega)]
theorem hu_us_old {s : Nat} (hw : wt s ≠ 0) : hu_us A (M, R, wt) s = (M, hu_up (hu_up R (M - hu_he M R s (M + 1)) (R (M - hu_la M R wt (wt s) (M + 1)))) (M - hu_la M R wt (wt s) (M + 1)) s, hu_up wt s (wt s + 1)) := if_neg hw
theorem hu_us_new {s : Nat} (hw : wt s = 0) : hu_us A (M, R, wt) s = (if hu_cz (hu_up wt s 1) A = 0 then M else M + 1, hu_up (hu_up R M s) (M + 1) 100, hu_up wt s 1) := if_pos hw
/-- the exchanged row -/
def hu_sg (jh jl a : Nat) : Nat := if a = jl then jh else if a = jh then jl else a
theorem hu_sg_R {jh jl s : Nat} (hR : R jh = s) (a : Nat) : hu_up (hu_up R jh (R jl)) jl s a = R (hu_sg jh jl a) := by
  unfold hu_sg hu_up
  by_cases c : a = jl
  · rw [if_pos c, if_pos c, hR]
  · rw [if_neg c, if_neg c]
    by_cases d : a = jh
    · rw [if_pos d, if_pos d]
    · rw [if_neg d, if_neg d]
theorem hu_sg_sg (jh jl a : Nat) : hu_sg jh jl (hu_sg jh jl a) = a := by
  unfold hu_sg
  repeat' split
  all_goals omega
theorem hu_sg_le {jh jl a : Nat} (h1 : jh ≤ M) (h2 : jl ≤ M) (ha : a ≤ M) : hu_sg jh jl a ≤ M := by
  unfold hu_sg
  repeat' split
  all_goals omega
theorem hu_ro_old (h : hu_ro A M R wt) {s jh jl : Nat} (hs : s < 32) (hw : wt s ≠ 0) (h1 : jl ≤ jh) (h2 : jh ≤ M) (hR : R jh = s) : hu_ro A M (hu_up (hu_up R jh (R jl)) jl s) (hu_up wt s (wt s + 1)) := by
  have eR := hu_sg_R (R := R) (jl := jl) hR
  have wl : ∀ x, (wt x = 0 ↔ hu_up wt s (wt s + 1) x = 0) := by
    intro x
    unfold hu_up
    by_cases c : x = s
    · rw [if_pos c, c]; omega
    · rw [if_neg c]
  have wp : ∀ x, 1 ≤ wt x → 1 ≤ hu_up wt s (wt s + 1) x := by
    intro x hx
    have := wl x
    omega
  have ecz := hu_cz_same A (fun x _ => wl x)
  have jhE : R M = 100 → jh < M := by
    intro e
    by_cases c : jh = M
    · rw [c] at hR; omega
    · omega
  have sy := @hu_ro_sym A M R wt h
  have hA := h.2.1
  refine ⟨h.1, hA, ?_, ?_, ?_, ?_⟩
  · intro a b ha hb e
    rw [eR, eR] at e
    have x := h.2.2.1 _ _ (hu_sg_le h2 (by omega) ha) (hu_sg_le h2 (by omega) hb) e
    have y := congrArg (hu_sg jh jl) x
    rw [hu_sg_sg, hu_sg_sg] at y
    exact y
  · intro a ha
    rw [eR]
    have nb : R (hu_sg jh jl a) ≠ 100 := by
      intro e
      rcases h.2.2.2.2.1 with x | x
      · have y := h.2.2.1 (hu_sg jh jl a) M (hu_sg_le h2 (by omega) (by omega)) (Nat.le_refl _) (by rw [e, x.1])
        have z := jhE x.1
        unfold hu_sg at y
        by_cases c : a = jl
        · rw [if_pos c] at y; omega
        · rw [if_neg c] at y
          by_cases d : a = jh
          · rw [if_pos d] at y; omega
          · rw [if_neg d] at y; omega
      · have y := hu_sg_le h2 (by omega : jl ≤ M) (by omega : a ≤ M)
        by_cases c : hu_sg jh jl a = M
        · rw [c] at e; omega
        · have := h.2.2.2.1 (hu_sg jh jl a) (by omega); omega
    have x := sy (hu_sg_le h2 (by omega) (by omega)) nb
    exact ⟨x.1, wp _ x.2.2⟩
  · rcases h.2.2.2.2.1 with x | x
    · left
      have z := jhE x.1
      have e : hu_sg jh jl M = M := by unfold hu_sg; rw [if_neg (by omega), if_neg (by omega)]
      rw [eR, e, ← ecz]
      exact x
    · right
      rw [eR, ← ecz]
      have y : hu_sg jh jl M ≤ M := hu_sg_le h2 (by omega) (Nat.le_refl _)
      have nb : R (hu_sg jh jl M) ≠ 100 := by
        by_cases c : hu_sg jh jl M = M
        · rw [c]; omega
        · have := h.2.2.2.1 (hu_sg jh jl M) (by omega); omega
      have w := sy y nb
      exact ⟨w.1, wp _ w.2.2, x.2.2.1, x.2.2.2⟩
  · intro x hx hj
    have hx2 : x ≠ s := by
      intro e
      refine hj jl (by omega) ?_
      rw [hu_up_s, e]
    rw [hu_up_n hx2]
    refine h.2.2.2.2.2 x hx (fun j hjM e => ?_)
    refine hj (hu_sg jh jl j) (hu_sg_le h2 (by omega) hjM) ?_
    rw [eR, hu_sg_sg, e]
/-- a new symbol: E is there, and the longer row has no symbol twice -/
theorem hu_ro_fr (h : hu_ro A M R wt) {s : Nat} (hs : s < A) (hw : wt s = 0) : R M = 100 ∧ M < A ∧ hu_cz (hu_up wt s 1) A + (M + 1) = A
    ∧ (∀ a b, a ≤ M + 1 → b ≤ M + 1 → hu_up (hu_up R M s) (M + 1) 100 a = hu_up (hu_up R M s) (M + 1) 100 b → a = b)
    ∧ (∀ a, a ≤ M → hu_up (hu_up R M s) (M + 1) 100 a < A ∧ 1 ≤ hu_up wt s 1 (hu_up (hu_up R M s) (M + 1) 100 a))
    ∧ (∀ x, x < 32 → (∀ j, j ≤ M → hu_up (hu_up R M s) (M + 1) 100 j ≠ x) → hu_up wt s 1 x = 0) := by
  have un := hu_ro_un h (s := s) (by have := h.2.1; omega) hw
  have sy := @hu_ro_sym A M R wt h
  obtain ⟨h1, h2, h3, h4, h5, h6⟩ := h
  have cp := hu_cz_pos hw A hs
  have cs := hu_cz_set (v := 1) (Nat.le_refl _) hw A hs
  have hE : R M = 100 ∧ M < A ∧ hu_cz wt A + M = A := by
    rcases h5 with x | x
    · exact x
    · omega
  have e0 : ∀ a, a < M → hu_up (hu_up R M s) (M + 1) 100 a = R a := fun a ha => by rw [hu_up_n (by omega), hu_up_n (by omega)]
  have e1 : hu_up (hu_up R M s) (M + 1) 100 M = s := by rw [hu_up_n (by omega), hu_up_s]
  have e2 : hu_up (hu_up R M s) (M + 1) 100 (M + 1) = 100 := hu_up_s
  generalize hu_up (hu_up R M s) (M + 1) 100 = R1 at *
  refine ⟨hE.1, hE.2.1, by omega, ?_, ?_, ?_⟩
  · intro a b ha hb e
    have c1 : ∀ a, a < M → R a < A := fun a ha => (h4 a ha).1
    have c2 : ∀ a, a < M → R a ≠ s := fun a ha => un a (by omega)
    rcases (by omega : a < M ∨ a = M ∨ a = M + 1) with x | x | x <;> rcases (by omega : b < M ∨ b = M ∨ b = M + 1) with y | y | y
    · rw [e0 a x, e0 b y] at e
      exact h3 a b (by omega) (by omega) e
    · rw [e0 a x, y, e1] at e; exact absurd e (c2 a x)
    · rw [e0 a x, y, e2] at e; have := c1 a x; omega
    · rw [e0 b y, x, e1] at e; exact absurd e.symm (c2 b y)
    · omega
    · rw [x, y, e1, e2] at e; omega
    · rw [e0 b y, x, e2] at e; have := c1 b y; omega
    · rw [x, y, e1, e2] at e; omega
    · omega
  · intro a ha
    by_cases c : a = M
    · rw [c, e1, hu_up_s]; exact ⟨hs, Nat.le_refl _⟩
    · have x := h4 a (by omega)
      rw [e0 a (by omega), hu_up_n (un a (by omega))]
      exact x
  · intro x hx hj
    have hx2 : x ≠ s := fun e => hj M (Nat.le_refl _) (by rw [e1, e])
    rw [hu_up_n hx2]
    refine h6 x hx (fun j hjM e => ?_)
    by_cases c : j = M
    · rw [c] at e; omega
    · exact hj j hjM (by rw [e0 j (by omega), e])
theorem hu_ro_new (h : hu_ro A M R wt) {s : Nat} (hs : s < A) (hw : wt s = 0) : hu_ro A (if hu_cz (hu_up wt s 1) A = 0 then M else M + 1) (hu_up (hu_up R M s) (M + 1) 100) (hu_up wt s 1) := by
  obtain ⟨a1, a2, a3, a4, a5, a6⟩ := hu_ro_fr h hs hw
  obtain ⟨h1, h2, h3, h4, h5, h6⟩ := h
  have e2 : hu_up (hu_up R M s) (M + 1) 100 (M + 1) = 100 := hu_up_s
  generalize hu_up (hu_up R M s) (M + 1) 100 = R1 at *
  by_cases c : hu_cz (hu_up wt s 1) A = 0
  · rw [if_pos c]
    refine ⟨h1, h2, fun a b ha hb => a4 a b (by omega) (by omega), fun a ha => a5 a (by omega), Or.inr ?_, a6⟩
    have x := a5 M (Nat.le_refl _)
    exact ⟨x.1, x.2, by omega, c⟩
  · rw [if_neg c]
    refine ⟨h1, h2, a4, fun a ha => a5 a (by omega), Or.inl ⟨e2, by omega, a3⟩, fun x hx hj => a6 x hx (fun j hjM => hj j (by omega))⟩
end
end
section
/-! the component's arrays of one side against the pure tree -/
section
variable {sd M : Nat} {k R W : Nat → Nat} {oc sw iz lz : Nat → Int32}
def hu_TX (sd M : Nat) (k R W : Nat → Nat) (oc sw iz lz : Nat → Int32) : Prop :=
  (∀ i, i < 2 * M + 1 → k (i + 1) = k i + 1 → oc (sd * 72 + i) = nI (101 + k i) ∧ iz (sd * 36 + k i) = nI i)
  ∧ (∀ i, i < 2 * M + 1 → k (i + 1) = k i → oc (sd * 72 + i) = nI (R (i - k i)) ∧ (R (i - k i) < 32 → lz (sd * 32 + R (i - k i)) = nI i))
  ∧ (∀ s, s < 32 → (∀ j, j ≤ M → R j ≠ s) → lz (sd * 32 + s) = 0)
  ∧ (∀ i, i < 2 * M + 1 → sw (sd * 72 + i) = nI (W i))
/-- what lies outside one side's part is kept -/
def hu_fr (sd : Nat) (oc sw iz lz oc' sw' iz' lz' : Nat → Int32) : Prop :=
  (∀ i, (i < sd * 72 ∨ sd * 72 + 72 ≤ i) → oc' i = oc i) ∧ (∀ i, (i < sd * 72 ∨ sd * 72 + 72 ≤ i) → sw' i = sw i)
  ∧ (∀ i, (i < sd * 36 ∨ sd * 36 + 36 ≤ i) → iz' i = iz i) ∧ (∀ i, (i < sd * 32 ∨ sd * 32 + 32 ≤ i) → lz' i = lz i)
theorem hu_fr_r : hu_fr sd oc sw iz lz oc sw iz lz := ⟨fun _ _ => rfl, fun _ _ => rfl, fun _ _ => rfl, fun _ _ => rfl⟩
theorem hu_fr_t {oc' sw' iz' lz' oc2 sw2 iz2 lz2 : Nat → Int32} (h : hu_fr sd oc sw iz lz oc' sw' iz' lz') (g : hu_fr sd oc' sw' iz' lz' oc2 sw2 iz2 lz2) : hu_fr sd oc sw iz lz oc2 sw2 iz2 lz2 :=
  ⟨fun i hi => (g.1 i hi).trans (h.1 i hi), fun i hi => (g.2.1 i hi).trans (h.2.1 i hi), fun i hi => (g.2.2.1 i hi).trans (h.2.2.1 i hi), fun i hi => (g.2.2.2 i hi).trans (h.2.2.2 i hi)⟩
theorem hu_fr_oc {oc' sw' iz' lz' : Nat → Int32} (h : hu_fr sd oc sw iz lz oc' sw' iz' lz') {p : Nat} (hp : p < 72) (x : Int32) : hu_fr sd oc sw iz lz (upd oc' (sd * 72 + p) x) sw' iz' lz' :=
  ⟨fun i hi => by rw [pk_un (by omega)]; exact h.1 i hi, h.2.1, h.2.2.1, h.2.2.2⟩
theorem hu_fr_sw {oc' sw' iz' lz' : Nat → Int32} (h : hu_fr sd oc sw iz lz oc' sw' iz' lz') {p : Nat} (hp : p < 72) (x : Int32) : hu_fr sd oc sw iz lz oc' (upd sw' (sd * 72 + p) x) iz' lz' :=
  ⟨h.1, fun i hi => by rw [pk_un (by omega)]; exact h.2.1 i hi, h.2.2.1, h.2.2.2⟩
theorem hu_fr_iz {oc' sw' iz' lz' : Nat → Int32} (h : hu_fr sd oc sw iz lz oc' sw' iz' lz') {p : Nat} (hp : p < 36) (x : Int32) : hu_fr sd oc sw iz lz oc' sw' (upd iz' (sd * 36 + p) x) lz' :=
  ⟨h.1, h.2.1, fun i hi => by rw [pk_un (by omega)]; exact h.2.2.1 i hi, h.2.2.2⟩
theorem hu_fr_lz {oc' sw' iz' lz' : Nat → Int32} (h : hu_fr sd oc sw iz lz oc' sw' iz' lz') {p : Nat} (hp : p < 32) (x : Int32) : hu_fr sd oc sw iz lz oc' sw' iz' (upd lz' (sd * 32 + p) x) :=
  ⟨h.1, h.2.1, h.2.2.1, fun i hi => by rw [pk_un (by omega)]; exact h.2.2.2 i hi⟩
theorem hu_fr_TX {sd' : Nat} {oc' sw' iz' lz' : Nat → Int32} (h : hu_fr sd oc sw iz lz oc' sw' iz' lz') (hne : sd' ≠ sd) (hM : M ≤ 35) (hs : hu_sh M k) (t : hu_TX sd' M k R W oc sw iz lz) : hu_TX sd' M k R W oc' sw' iz' lz' := by
  obtain ⟨t1, t2, t3, t4⟩ := t
  refine ⟨fun i hi a => ?_, fun i hi a => ?_, fun s h1 h2 => ?_, fun i hi => ?_⟩
  · have x := hu_inM hs hi a
    rw [h.1 _ (by omega), h.2.2.1 _ (by omega)]
    exact t1 i hi a
  · rw [h.1 _ (by omega)]
    refine ⟨(t2 i hi a).1, fun b => ?_⟩
    rw [h.2.2.2 _ (by omega)]
    exact (t2 i hi a).2 b
  · rw [h.2.2.2 _ (by omega)]
    exact t3 s h1 h2
  · rw [h.2.1 _ (by omega)]
    exact t4 i hi
/-- an exchange: the leaf at m + 1 with the inner node at m -/
theorem hu_TX_sl (t : hu_TX sd M k R W oc sw iz lz) (hs : hu_sh M k) {m s : Nat} (hm : m + 1 < 2 * M + 1) (a : k (m + 1) = k m + 1) (b : k (m + 2) = k (m + 1))
    (hinj : ∀ a b, a ≤ M → b ≤ M → R a = R b → a = b) (hR : R (m - k m) = s) :
    hu_TX sd M (hu_up k (m + 1) (k m)) R W (upd (upd oc (sd * 72 + (m + 1)) (nI (101 + k m))) (sd * 72 + m) (nI s)) sw (upd iz (sd * 36 + k m) (nI (m + 1))) (upd lz (sd * 32 + s) (nI m)) := by
  obtain ⟨t1, t2, t3, t4⟩ := t
  have kid := hu_kid hs (i := m) (by omega)
  have b' : k (m + 1 + 1) = k (m + 1) := b
  have iM := hu_lfM hs hm b'
  refine ⟨fun i hi => ?_, fun i hi => ?_, fun x h1 h2 => ?_, t4⟩
  · by_cases c : i = m + 1
    · subst c
      intro _
      rw [hu_up_s, pk_un (by omega), pk_us, pk_us]
      exact ⟨rfl, rfl⟩
    · by_cases d : i = m
      · subst d
        rw [hu_up_s, hu_up_n (by omega)]
        intro; omega
      · rw [hu_up_n (by omega), hu_up_n (by omega)]
        intro e
        have ne : k i ≠ k m := fun z => d (hu_inU hs hi (by omega) e a z)
        rw [pk_un (by omega), pk_un (by omega), pk_un (by omega)]
        exact t1 i hi e
  · by_cases c : i = m + 1
    · subst c
      rw [hu_up_s, hu_up_n (by omega)]
      intro; omega
    · by_cases d : i = m
      · subst d
        intro _
        rw [hu_up_n (by omega), hR, pk_us]
        exact ⟨rfl, fun _ => pk_us⟩
      · rw [hu_up_n (by omega), hu_up_n (by omega)]
        intro e
        rw [pk_un (by omega), pk_un (by omega)]
        refine ⟨(t2 i hi e).1, fun f => ?_⟩
        have ne : R (i - k i) ≠ s := by
          intro z
          have y := hinj (i - k i) (m - k m) (hu_lfM hs hi e) (by omega) (by rw [z, hR])
          exact c (hu_lfU hs hi hm e b' (by omega))
        rw [pk_un (by omega)]
        exact (t2 i hi e).2 f
  · have ne : x ≠ s := fun z => h2 (m - k m) (by omega) (by rw [hR, z])
    rw [pk_un (by omega)]
    exact t3 x h1 h2
/-- an exchange: the inner node at m + 1 with the leaf at m -/
theorem hu_TX_si (t : hu_TX sd M k R W oc sw iz lz) (hs : hu_sh M k) {m s : Nat} (hm : m + 1 < 2 * M + 1) (a : k (m + 1) = k m) (b : k (m + 2) = k (m + 1) + 1)
    (hinj : ∀ a b, a ≤ M → b ≤ M → R a = R b → a = b) (hR : R (m - k m) = s) :
    hu_TX sd M (hu_up k (m + 1) (k m + 1)) R W (upd (upd oc (sd * 72 + (m + 1)) (nI s)) (sd * 72 + m) (nI (101 + k m))) sw (upd iz (sd * 36 + k m) (nI m)) (upd lz (sd * 32 + s) (nI (m + 1))) := by
  obtain ⟨t1, t2, t3, t4⟩ := t
  have kid := hu_kid hs (i := m) (by omega)
  have iM := hu_lfM hs (by omega) a
  have b' : k (m + 1 + 1) = k (m + 1) + 1 := b
  refine ⟨fun i hi => ?_, fun i hi => ?_, fun x h1 h2 => ?_, t4⟩
  · by_cases c : i = m + 1
    · subst c
      rw [hu_up_s, hu_up_n (by omega)]
      intro; omega
    · by_cases d : i = m
      · subst d
        intro _
        rw [hu_up_n (by omega), pk_us, pk_us]
        exact ⟨rfl, rfl⟩
      · rw [hu_up_n (by omega), hu_up_n (by omega)]
        intro e
        have ne : k i ≠ k m := fun z => c (hu_inU hs hi hm e b' (by omega))
        rw [pk_un (by omega), pk_un (by omega), pk_un (by omega)]
        exact t1 i hi e
  · by_cases c : i = m + 1
    · subst c
      intro _
      have e : m + 1 - (k m + 1) = m - k m := by omega
      rw [hu_up_s, e, hR, pk_un (by omega), pk_us]
      exact ⟨rfl, fun _ => pk_us⟩
    · by_cases d : i = m
      · subst d
        rw [hu_up_s, hu_up_n (by omega)]
        intro; omega
      · rw [hu_up_n (by omega), hu_up_n (by omega)]
        intro e
        rw [pk_un (by omega), pk_un (by omega)]
        refine ⟨(t2 i hi e).1, fun f => ?_⟩
        have ne : R (i - k i) ≠ s := by
          intro z
          have y := hinj (i - k i) (m - k m) (hu_lfM hs hi e) (by omega) (by rw [z, hR])
          exact d (hu_lfU hs hi (by omega) e a (by omega))
        rw [pk_un (by omega)]
        exact (t2 i hi e).2 f
  · have ne : x ≠ s := fun z => h2 (m - k m) (by omega) (by rw [hR, z])
    rw [pk_un (by omega)]
    exact t3 x h1 h2
/-- an exchange of two leaves -/
theorem hu_TX_lf (t : hu_TX sd M k R W oc sw iz lz) (hs : hu_sh M k) {a b s r : Nat} (ha : a < 2 * M + 1) (hb : b < 2 * M + 1) (la : k (a + 1) = k a) (lb : k (b + 1) = k b) (hne : a ≠ b)
    (hinj : ∀ a b, a ≤ M → b ≤ M → R a = R b → a = b) (hR : R (a - k a) = s) (hr : R (b - k b) = r) :
    hu_TX sd M k (hu_up (hu_up R (a - k a) r) (b - k b) s) W (upd (upd oc (sd * 72 + a) (nI r)) (sd * 72 + b) (nI s)) sw iz (upd (upd lz (sd * 32 + r) (nI a)) (sd * 32 + s) (nI b)) := by
  obtain ⟨t1, t2, t3, t4⟩ := t
  have ja := hu_lfM hs ha la
  have jb := hu_lfM hs hb lb
  have jn : a - k a ≠ b - k b := fun e => hne (hu_lfU hs ha hb la lb e)
  have sr : s ≠ r := fun e => jn (hinj _ _ ja jb (by rw [hR, hr, e]))
  refine ⟨fun i hi e => ?_, fun i hi e => ?_, fun x h1 h2 => ?_, t4⟩
  · have n1 : i ≠ a := by intro z; subst z; omega
    have n2 : i ≠ b := by intro z; subst z; omega
    rw [pk_un (by omega), pk_un (by omega)]
    exact t1 i hi e
  · by_cases c : i = b
    · subst c
      rw [hu_up_s, pk_us, pk_us]
      exact ⟨rfl, fun _ => rfl⟩
    · by_cases d : i = a
      · subst d
        rw [hu_up_n jn, hu_up_s, pk_un (by omega), pk_us, pk_un (by omega), pk_us]
        exact ⟨rfl, fun _ => rfl⟩
      · have ji := hu_lfM hs hi e
        have n1 : i - k i ≠ a - k a := fun z => d (hu_lfU hs hi ha e la z)
        have n2 : i - k i ≠ b - k b := fun z => c (hu_lfU hs hi hb e lb z)
        have m1 : R (i - k i) ≠ s := fun z => n1 (hinj _ _ ji ja (by rw [z, hR]))
        have m2 : R (i - k i) ≠ r := fun z => n2 (hinj _ _ ji jb (by rw [z, hr]))
        rw [hu_up_n n2, hu_up_n n1, pk_un (by omega), pk_un (by omega), pk_un (by omega), pk_un (by omega)]
        exact t2 i hi e
  · have n1 : x ≠ s := fun z => h2 (b - k b) jb (by rw [hu_up_s, z])
    have n2 : x ≠ r := fun z => h2 (a - k a) ja (by rw [hu_up_n jn, hu_up_s, z])
    rw [pk_un (by omega), pk_un (by omega)]
    refine t3 x h1 (fun j hj z => ?_)
    by_cases c : j = b - k b
    · exact n2 (by rw [← z, c, hr])
    · by_cases d : j = a - k a
      · exact n1 (by rw [← z, d, hR])
      · exact h2 j hj (by rw [hu_up_n c, hu_up_n d, z])
theorem hu_TX_w (t : hu_TX sd M k R W oc sw iz lz) (p v : Nat) : hu_TX sd M k R (hu_up W p v) oc (upd sw (sd * 72 + p) (nI v)) iz lz := by
  refine ⟨t.1, t.2.1, t.2.2.1, fun i hi => ?_⟩
  by_cases c : i = p
  · rw [c, hu_up_s, pk_us]
  · rw [hu_up_n c, pk_un (by omega)]
    exact t.2.2.2 i hi
/-- E turns into an inner node with a new leaf and E below -/
def hu_ki (M : Nat) (k : Nat → Nat) : Nat → Nat := fun i => if i ≤ 2 * M then k i else M + 1
theorem hu_TX_in (t : hu_TX sd M k R W oc sw iz lz) (hs : hu_sh M k) (hp : hu_ps M k) {s : Nat} (hun : ∀ j, j ≤ M → R j ≠ s) (hE : R M = 100) :
    hu_TX sd (M + 1) (hu_ki M k) (hu_up (hu_up R M s) (M + 1) 100) (hu_up (hu_up W (2 * M + 1) 0) (2 * M + 2) 0)
      (upd (upd (upd oc (sd * 72 + 2 * M) (nI (101 + M))) (sd * 72 + (2 * M + 1)) (nI s)) (sd * 72 + (2 * M + 2)) (nI 100))
      (upd (upd sw (sd * 72 + (2 * M + 1)) 0) (sd * 72 + (2 * M + 2)) 0) (upd iz (sd * 36 + M) (nI (2 * M))) (upd lz (sd * 32 + s) (nI (2 * M + 1))) := by
  obtain ⟨t1, t2, t3, t4⟩ := t
  have l0 := hu_last hs hp
  have k0 : ∀ i, i ≤ 2 * M → hu_ki M k i = k i := fun i hi => if_pos hi
  have k1 : ∀ i, 2 * M < i → hu_ki M k i = M + 1 := fun i hi => if_neg (by omega)
  refine ⟨fun i hi => ?_, fun i hi => ?_, fun x h1 h2 => ?_, fun i hi => ?_⟩
  · by_cases c : i < 2 * M
    · rw [k0 i (by omega), k0 (i + 1) (by omega)]
      intro e
      have kM := hu_inM hs (i := i) (by omega) e
      rw [pk_un (by omega), pk_un (by omega), pk_un (by omega), pk_un (by omega)]
      exact t1 i (by omega) e
    · by_cases d : i = 2 * M
      · subst d
        intro _
        rw [k0 _ (Nat.le_refl _), l0, pk_un (by omega), pk_un (by omega), pk_us, pk_us]
        exact ⟨rfl, rfl⟩
      · rw [k1 i (by omega), k1 (i + 1) (by omega)]
        intro; omega
  · by_cases c : i < 2 * M
    · rw [k0 i (by omega), k0 (i + 1) (by omega)]
      intro e
      have ji := hu_lfM hs (i := i) (by omega) e
      have jn : i - k i ≠ M := fun z => by
        have := hu_lfU hs (i := i) (j := 2 * M) (by omega) (by omega) e (by rw [hs.2.1, l0]) (by omega)
        omega
      rw [hu_up_n (by omega), hu_up_n jn, pk_un (by omega), pk_un (by omega), pk_un (by omega), pk_un (by have := hun (i - k i) ji; omega)]
      exact t2 i (by omega) e
    · by_cases d : i = 2 * M
      · subst d
        rw [k0 _ (Nat.le_refl _), k1 _ (by omega)]
        intro; omega
      · rw [k1 i (by omega)]
        intro _
        by_cases f : i = 2 * M + 1
        · subst f
          have e : 2 * M + 1 - (M + 1) = M := by omega
          rw [e, hu_up_n (by omega), hu_up_s, pk_un (by omega), pk_us]
          exact ⟨rfl, fun _ => pk_us⟩
        · have e : i = 2 * M + 2 := by omega
          subst e
          have e : 2 * M + 2 - (M + 1) = M + 1 := by omega
          rw [e, hu_up_s, pk_us]
          exact ⟨rfl, fun z => by omega⟩
  · have n1 : x ≠ s := fun z => h2 M (by omega) (by rw [hu_up_n (by omega), hu_up_s, z])
    rw [pk_un (by omega)]
    refine t3 x h1 (fun j hj z => ?_)
    by_cases c : j = M
    · rw [c] at z; omega
    · exact h2 j (by omega) (by rw [hu_up_n (by omega), hu_up_n c, z])
  · by_cases c : i = 2 * M + 2
    · rw [c, hu_up_s, pk_us]; rfl
    · rw [hu_up_n c, pk_un (by omega)]
      by_cases d : i = 2 * M + 1
      · rw [d, hu_up_s, pk_us]; rfl
      · rw [hu_up_n d, pk_un (by omega)]
        exact t4 i (by omega)
end
end
section
/-! indices; place and exchange -/
section
theorem hx_72 (a i : Nat) : nI a * 72 + nI i = nI (a * 72 + i) := by rw [show (72 : Int32) = nI 72 from rfl, pk_mul, nI_add]
theorem hx_36 (a i : Nat) : nI a * 36 + nI i = nI (a * 36 + i) := by rw [show (36 : Int32) = nI 36 from rfl, pk_mul, nI_add]
theorem hx_32 (a i : Nat) : nI a * 32 + nI i = nI (a * 32 + i) := by rw [show (32 : Int32) = nI 32 from rfl, pk_mul, nI_add]
theorem hx_256 (a i : Nat) : nI a * 256 + nI i = nI (a * 256 + i) := by rw [show (256 : Int32) = nI 256 from rfl, pk_mul, nI_add]
theorem hx_m72 (a : Nat) : nI a * 72 = nI (a * 72) := by rw [show (72 : Int32) = nI 72 from rfl, pk_mul]
theorem hx_c72 {a i : Nat} (ha : a < 2) (hi : i < 1000) : (nI a * 72 + nI i).toNatClampNeg = a * 72 + i := by rw [hx_72, nI_clamp (by omega)]
theorem hx_c36 {a i : Nat} (ha : a < 2) (hi : i < 1000) : (nI a * 36 + nI i).toNatClampNeg = a * 36 + i := by rw [hx_36, nI_clamp (by omega)]
theorem hx_c32 {a i : Nat} (ha : a < 2) (hi : i < 1000) : (nI a * 32 + nI i).toNatClampNeg = a * 32 + i := by rw [hx_32, nI_clamp (by omega)]
theorem hx_c256 {a i : Nat} (ha : a < 2) (hi : i < 1000) : (nI a * 256 + nI i).toNatClampNeg = a * 256 + i := by rw [hx_256, nI_clamp (by omega)]
theorem hx_i101 (a t : Nat) : nI a * 36 + nI (101 + t) - 101 = nI (a * 36 + t) := by
  rw [hx_36, show (101 : Int32) = nI 101 from rfl, pk_sub (by omega)]
  exact congrArg nI (by omega)
theorem hx_b1 (b m : Nat) : nI b + nI (m + 1) - 1 = nI (b + m) := by
  rw [nI_add, show (1 : Int32) = nI 1 from rfl, pk_sub (by omega)]
  exact congrArg nI (by omega)
theorem hx_cb1 {b m : Nat} (hb : b < 1000) (hm : m < 1000) : (nI b + nI (m + 1) - 1).toNatClampNeg = b + m := by rw [hx_b1, nI_clamp (by omega)]
theorem hx_half {q : Nat} (h : 1 ≤ q) (h2 : q < 1000) : (nI q - 1) >>> ((1 : Int32) &&& 31) = nI ((q - 1) / 2) := by
  rw [show (1 : Int32) &&& 31 = 1 from rfl]
  rw [show nI q - 1 = nI (q - 1) from pk_sub (b := 1) h]
  exact pk_shrN (by omega) 1 1 (by decide)
variable {sd : Nat}
variable {eA eT eC rh rc pb pc ds tb tc un : Int32} {oc sw iz lz nd sn tx tn rg : Nat → Int32}
theorem hx_place_in {post : SX → Prop} (hsd : sd < 2) {p t : Nat} (hp : p < 72) (ht : t < 36)
    (h : post (eA, eT, eC, rh, rc, pb, pc, ds, tb, tc, un, upd oc (sd * 72 + p) (nI (101 + t)), sw, upd iz (sd * 36 + t) (nI p), lz, nd, sn, tx, tn, rg)) : wpX_place post (eA, eT, eC, rh, rc, pb, pc, ds, tb, tc, un, oc, sw, iz, lz, nd, sn, tx, tn, rg) (nI sd) (nI p) (nI (101 + t)) := by
  refine ⟨pk_in (sd * 72 + p) 144 (by omega) (hx_72 _ _), nm_r (e' := upd oc (sd * 72 + p) (nI (101 + t))) (by rw [hx_c72 hsd (by omega)]) ?_⟩
  refine br_f (nI_nlt (b := 101) (by omega) (by omega)) ⟨pk_in (sd * 36 + t) 72 (by omega) (hx_i101 _ _), nm_r (e' := upd iz (sd * 36 + t) (nI p)) (by rw [hx_i101, nI_clamp (by omega)]) h⟩
theorem hx_place_lf {post : SX → Prop} (hsd : sd < 2) {p s : Nat} (hp : p < 72) (hs : s < 32)
    (h : post (eA, eT, eC, rh, rc, pb, pc, ds, tb, tc, un, upd oc (sd * 72 + p) (nI s), sw, iz, upd lz (sd * 32 + s) (nI p), nd, sn, tx, tn, rg)) : wpX_place post (eA, eT, eC, rh, rc, pb, pc, ds, tb, tc, un, oc, sw, iz, lz, nd, sn, tx, tn, rg) (nI sd) (nI p) (nI s) := by
  refine ⟨pk_in (sd * 72 + p) 144 (by omega) (hx_72 _ _), nm_r (e' := upd oc (sd * 72 + p) (nI s)) (by rw [hx_c72 hsd (by omega)]) ?_⟩
  refine br_t (nI_lt (b := 101) (by omega) (by omega)) (br_f (nI_ge (b := 100) (by omega) (by omega)) ⟨pk_in (sd * 32 + s) 64 (by omega) (hx_32 _ _), nm_r (e' := upd lz (sd * 32 + s) (nI p)) (by rw [hx_c32 hsd (by omega)]) h⟩)
theorem hx_place_E {post : SX → Prop} (hsd : sd < 2) {p : Nat} (hp : p < 72)
    (h : post (eA, eT, eC, rh, rc, pb, pc, ds, tb, tc, un, upd oc (sd * 72 + p) (nI 100), sw, iz, lz, nd, sn, tx, tn, rg)) : wpX_place post (eA, eT, eC, rh, rc, pb, pc, ds, tb, tc, un, oc, sw, iz, lz, nd, sn, tx, tn, rg) (nI sd) (nI p) 100 := by
  refine ⟨pk_in (sd * 72 + p) 144 (by omega) (hx_72 _ _), nm_r (e' := upd oc (sd * 72 + p) (nI 100)) (by rw [hx_c72 hsd (by omega)]; rfl) ?_⟩
  exact br_t (by decide) (br_t (by decide) h)
theorem hx_ex_sl {post : SX → Prop} (hsd : sd < 2) {m s t : Nat} (hm : m + 1 < 72) (hs : s < 32) (ht : t < 36) (h1 : oc (sd * 72 + (m + 1)) = nI s) (h2 : oc (sd * 72 + m) = nI (101 + t))
    (h : post (eA, eT, eC, rh, rc, pb, pc, ds, tb, tc, un, upd (upd oc (sd * 72 + (m + 1)) (nI (101 + t))) (sd * 72 + m) (nI s), sw, upd iz (sd * 36 + t) (nI (m + 1)), upd lz (sd * 32 + s) (nI m), nd, sn, tx, tn, rg)) :
    wpX_exchange post (eA, eT, eC, rh, rc, pb, pc, ds, tb, tc, un, oc, sw, iz, lz, nd, sn, tx, tn, rg) (nI sd) (nI (m + 1)) (nI m) := by
  refine ⟨pk_in (sd * 72 + (m + 1)) 144 (by omega) (hx_72 _ _), nm_r (e' := nI s) (by rw [hx_c72 hsd (by omega), h1]) ⟨pk_in (sd * 72 + m) 144 (by omega) (hx_72 _ _), nm_r (e' := nI (101 + t)) (by rw [hx_c72 hsd (by omega), h2]) ?_⟩⟩
  exact hx_place_in hsd hm ht (hx_place_lf hsd (by omega) hs h)
theorem hx_ex_si {post : SX → Prop} (hsd : sd < 2) {m s t : Nat} (hm : m + 1 < 72) (hs : s < 32) (ht : t < 36) (h1 : oc (sd * 72 + (m + 1)) = nI (101 + t)) (h2 : oc (sd * 72 + m) = nI s)
    (h : post (eA, eT, eC, rh, rc, pb, pc, ds, tb, tc, un, upd (upd oc (sd * 72 + (m + 1)) (nI s)) (sd * 72 + m) (nI (101 + t)), sw, upd iz (sd * 36 + t) (nI m), upd lz (sd * 32 + s) (nI (m + 1)), nd, sn, tx, tn, rg)) :
    wpX_exchange post (eA, eT, eC, rh, rc, pb, pc, ds, tb, tc, un, oc, sw, iz, lz, nd, sn, tx, tn, rg) (nI sd) (nI (m + 1)) (nI m) := by
  refine ⟨pk_in (sd * 72 + (m + 1)) 144 (by omega) (hx_72 _ _), nm_r (e' := nI (101 + t)) (by rw [hx_c72 hsd (by omega), h1]) ⟨pk_in (sd * 72 + m) 144 (by omega) (hx_72 _ _), nm_r (e' := nI s) (by rw [hx_c72 hsd (by omega), h2]) ?_⟩⟩
  exact hx_place_lf hsd hm hs (hx_place_in hsd (by omega) ht h)
theorem hx_ex_lf {post : SX → Prop} (hsd : sd < 2) {a b s r : Nat} (ha : a < 72) (hb : b < 72) (hs : s < 32) (hr : r < 32) (h1 : oc (sd * 72 + a) = nI s) (h2 : oc (sd * 72 + b) = nI r)
    (h : post (eA, eT, eC, rh, rc, pb, pc, ds, tb, tc, un, upd (upd oc (sd * 72 + a) (nI r)) (sd * 72 + b) (nI s), sw, iz, upd (upd lz (sd * 32 + r) (nI a)) (sd * 32 + s) (nI b), nd, sn, tx, tn, rg)) :
    wpX_exchange post (eA, eT, eC, rh, rc, pb, pc, ds, tb, tc, un, oc, sw, iz, lz, nd, sn, tx, tn, rg) (nI sd) (nI a) (nI b) := by
  refine ⟨pk_in (sd * 72 + a) 144 (by omega) (hx_72 _ _), nm_r (e' := nI s) (by rw [hx_c72 hsd (by omega), h1]) ⟨pk_in (sd * 72 + b) 144 (by omega) (hx_72 _ _), nm_r (e' := nI r) (by rw [hx_c72 hsd (by omega), h2]) ?_⟩⟩
  exact hx_place_lf hsd ha hr (hx_place_lf hsd hb hs h)
theorem hx_parent {post : Int32 → Prop} (hsd : sd < 2) {q z : Nat} (h0 : 1 ≤ q) (hq : q < 72) (hz : iz (sd * 36 + (q - 1) / 2) = nI z) (h : post (nI z)) : wpX_parentSlot post (eA, eT, eC, rh, rc, pb, pc, ds, tb, tc, un, oc, sw, iz, lz, nd, sn, tx, tn, rg) (nI sd) (nI q) := by
  have e : (nI sd * 36) + ((nI q - 1) >>> ((1 : Int32) &&& 31)) = nI (sd * 36 + (q - 1) / 2) := by rw [hx_half h0 (by omega), hx_36]
  refine ⟨pk_in (sd * 36 + (q - 1) / 2) 72 (by omega) e, ?_⟩
  rw [e, nI_clamp (by omega), hz]
  exact h
end
end
section
/-! leadBlock, slideLeaf, slideInner -/
section
variable {sd M n : Nat} {R wt : Nat → Nat}
variable {eA eT eC rh rc pb pc ds tb tc un : Int32} {oc sw iz lz nd sn tx tn rg : Nat → Int32}
theorem hx_slideLeaf_18 {post : Int32 → SX → Prop} {w jl s : Nat} {W : Nat → Nat} (hsd : sd < 2) (hM : M ≤ 34) (hinj : ∀ a b, a ≤ M → b ≤ M → R a = R b → a = b) (hR : R jl = s) (hs : s < 32) (hRv : ∀ j, j ≤ M → R j ≤ 100) (hW0 : W 0 < 2 ^ 30) :
    ∀ (p f : Nat) (k : Nat → Nat) (oc iz lz : Nat → Int32), p < f → hu_SL M R wt W w jl k p → hu_TX sd M k R W oc sw iz lz →
    (∀ (p' : Nat) (k' : Nat → Nat) (oc' iz' lz' : Nat → Int32), hu_SL M R wt W w jl k' p' → (p' = 0 ∨ k' p' = k' (p' - 1) ∨ W (p' - 1) ≠ w) → p' ≤ p → hu_TX sd M k' R W oc' sw iz' lz' → hu_fr sd oc sw iz lz oc' sw iz' lz' → post (nI p') (eA, eT, eC, rh, rc, pb, pc, ds, tb, tc, un, oc', sw, iz', lz', nd, sn, tx, tn, rg)) →
    wX_slideLeaf_18 post (nI sd) (nI (sd * 72)) (nI w) f (nI p) eA eT eC rh rc pb pc ds tb tc un oc sw iz lz nd sn tx tn rg := by
  intro p
  induction p with
  | zero =>
    intro f k oc iz lz hf h t K
    obtain ⟨f, rfl⟩ : ∃ g, f = g + 1 := ⟨f - 1, by omega⟩
    exact br_t (nI_le (Nat.le_refl 0) (by decide)) (K 0 k oc iz lz h (Or.inl rfl) (Nat.le_refl _) t hu_fr_r)
  | succ m ih =>
    intro f k oc iz lz hf h t K
    obtain ⟨f, rfl⟩ : ∃ g, f = g + 1 := ⟨f - 1, by omega⟩
    have hsh := h.1
    have ho := h.2.2.1
    have hp := h.2.2.2.2.2.1
    have hlf := h.2.2.2.2.2.2.1
    have hjl := h.2.2.2.2.2.2.2.1
    have hWp := h.2.2.2.2.2.2.2.2.1
    have hWm : W m < 2 ^ 30 := Nat.lt_of_le_of_lt (hu_sof ho (Nat.zero_le m) (by omega)) hW0
    have hw : w < 2 ^ 30 := by
      have := hu_sof ho (Nat.zero_le (m + 1)) (by omega)
      omega
    have e := hx_cb1 (b := sd * 72) (m := m) (by omega) (by omega)
    refine br_f (nI_nle (by omega) (by omega)) ⟨pk_in (sd * 72 + m) 144 (by omega) (hx_b1 _ _), ?_⟩
    rw [e]
    rcases hsh.2.2 m (by omega) with c | c
    · have v := hRv (m - k m) (hu_lfM hsh (by omega) c)
      rw [(t.2.1 m (by omega) c).1]
      exact br_t (nI_lt (b := 101) (by omega) (by omega)) (K (m + 1) k oc iz lz h (Or.inr (Or.inl c)) (Nat.le_refl _) t hu_fr_r)
    · have hkM := hu_inM hsh (i := m) (by omega) c
      have t1 := (t.1 m (by omega) c).1
      rw [t1]
      refine br_f (nI_nlt (b := 101) (by omega) (by omega)) ⟨pk_in (sd * 72 + m) 144 (by omega) (hx_b1 _ _), ?_⟩
      rw [t.2.2.2 m (by omega)]
      by_cases hw2 : W m = w
      · refine br_t (by rw [hw2]) ?_
        have kid := hu_kid hsh (i := m) (by omega)
        have hjm : m - k m = jl := by omega
        have hR' : R (m - k m) = s := by rw [hjm]; exact hR
        have t2 := (t.2.1 (m + 1) hp hlf).1
        rw [hjl, hR] at t2
        rw [show nI (m + 1) - 1 = nI m from nI_pred m]
        refine hx_ex_sl hsd (by omega) hs (by omega) t2 t1 ?_
        refine nm_r (pk_m1 m) (ih f _ _ _ _ (by omega) (hu_SL_step h c hw2) (hu_TX_sl t hsh hp c hlf hinj hR') ?_)
        intro p' k' oc' iz' lz' a1 a2 a3 a4 a5
        refine K p' k' oc' iz' lz' a1 a2 (by omega) a4 (hu_fr_t ?_ a5)
        exact hu_fr_lz (hu_fr_iz (hu_fr_oc (hu_fr_oc hu_fr_r (by omega) _) (by omega) _) (by omega) _) (by omega) _
      · refine br_f (fun z => hw2 ((nI_eq (by omega) (by omega)).mp z)) (K (m + 1) k oc iz lz h (Or.inr (Or.inr hw2)) (Nat.le_refl _) t hu_fr_r)
theorem hx_slideInner_18 {post : SX → Prop} {z : Nat} {W : Nat → Nat} (hsd : sd < 2) (hM : M ≤ 34) (hinj : ∀ a b, a ≤ M → b ≤ M → R a = R b → a = b) (hRv : ∀ j, j < M → R j < 32) (hRM : R M ≤ 100) (hW0 : W 0 < 2 ^ 30) :
    ∀ (p f : Nat) (k : Nat → Nat) (oc iz lz : Nat → Int32), p < f → hu_SI M R wt W z n k p → hu_TX sd M k R W oc sw iz lz →
    (∀ (k' : Nat → Nat) (oc' iz' lz' : Nat → Int32), hu_CI M R wt k' W z n → hu_TX sd M k' R W oc' sw iz' lz' → hu_fr sd oc sw iz lz oc' sw iz' lz' → post (eA, eT, eC, rh, rc, pb, pc, ds, tb, tc, un, oc', sw, iz', lz', nd, sn, tx, tn, rg)) →
    wX_slideInner_18 post (nI sd) (nI (sd * 72)) (nI (W z)) f (nI p) eA eT eC rh rc pb pc ds tb tc un oc sw iz lz nd sn tx tn rg := by
  intro p
  induction p with
  | zero =>
    intro f k oc iz lz hf h t K
    obtain ⟨f, rfl⟩ : ∃ g, f = g + 1 := ⟨f - 1, by omega⟩
    exact br_t (nI_le (Nat.le_refl 0) (by decide)) (K k oc iz lz (hu_SI_end h (Or.inl rfl)) t hu_fr_r)
  | succ m ih =>
    intro f k oc iz lz hf h t K
    obtain ⟨f, rfl⟩ : ∃ g, f = g + 1 := ⟨f - 1, by omega⟩
    have hsh := h.1
    have hps := h.2.1
    have ho := h.2.2.1
    have hz := h.2.2.2.2.2.1
    have hyz := h.2.2.2.2.2.2.1
    have hin := h.2.2.2.2.2.2.2.1
    have hWm : W m < 2 ^ 30 := Nat.lt_of_le_of_lt (hu_sof ho (Nat.zero_le m) (by omega)) hW0
    have hw : W z < 2 ^ 30 := Nat.lt_of_le_of_lt (hu_sof ho (Nat.zero_le z) (by omega)) hW0
    have e := hx_cb1 (b := sd * 72) (m := m) (by omega) (by omega)
    refine br_f (nI_nle (by omega) (by omega)) ⟨pk_in (sd * 72 + m) 144 (by omega) (hx_b1 _ _), ?_⟩
    rw [e]
    rcases hsh.2.2 m (by omega) with c | c
    · have jM := hu_lfM hsh (i := m) (by omega) c
      have hkM := hu_inM hsh (i := m + 1) (by omega) hin
      have psm := hps (m + 1) (by omega) hin
      have jlt : m - k m < M := by omega
      have v := hRv (m - k m) jlt
      have t2 := (t.2.1 m (by omega) c).1
      rw [t2]
      refine br_f (nI_ge (b := 101) (by omega) (by omega)) ⟨pk_in (sd * 72 + m) 144 (by omega) (hx_b1 _ _), ?_⟩
      rw [t.2.2.2 m (by omega)]
      by_cases hw2 : W m = W z
      · refine br_t (by rw [hw2]) ?_
        have t1 := (t.1 (m + 1) (by omega) hin).1
        rw [c] at t1
        rw [show nI (m + 1) - 1 = nI m from nI_pred m]
        refine hx_ex_si hsd (by omega) v (by omega) t1 t2 ?_
        refine nm_r (pk_m1 m) (ih f _ _ _ _ (by omega) (hu_SI_step h c hw2) (hu_TX_si t hsh (by omega) c hin hinj rfl) ?_)
        intro k' oc' iz' lz' a1 a2 a5
        refine K k' oc' iz' lz' a1 a2 (hu_fr_t ?_ a5)
        exact hu_fr_lz (hu_fr_iz (hu_fr_oc (hu_fr_oc hu_fr_r (by omega) _) (by omega) _) (by omega) _) (by omega) _
      · refine br_f (fun x => hw2 ((nI_eq (by omega) (by omega)).mp x)) (K k oc iz lz (hu_SI_end h (Or.inr (Or.inr hw2))) t hu_fr_r)
    · have hkM := hu_inM hsh (i := m) (by omega) c
      rw [(t.1 m (by omega) c).1]
      exact br_t (nI_le (a := 101) (by omega) (by omega)) (K k oc iz lz (hu_SI_end h (Or.inr (Or.inl c))) t hu_fr_r)
theorem hx_slideInner {post : SX → Prop} {z : Nat} {k W : Nat → Nat} (hsd : sd < 2) (hM : M ≤ 34) (hinj : ∀ a b, a ≤ M → b ≤ M → R a = R b → a = b) (hRv : ∀ j, j < M → R j < 32) (hRM : R M ≤ 100) (hn : n < 2 ^ 30)
    (h : hu_SI M R wt W z n k z) (t : hu_TX sd M k R W oc sw iz lz)
    (K : ∀ (k' : Nat → Nat) (oc' iz' lz' : Nat → Int32), hu_CI M R wt k' W z n → hu_TX sd M k' R W oc' sw iz' lz' → hu_fr sd oc sw iz lz oc' sw iz' lz' → post (eA, eT, eC, rh, rc, pb, pc, ds, tb, tc, un, oc', sw, iz', lz', nd, sn, tx, tn, rg)) :
    wpX_slideInner post (eA, eT, eC, rh, rc, pb, pc, ds, tb, tc, un, oc, sw, iz, lz, nd, sn, tx, tn, rg) (nI sd) (nI z) := by
  have hz := h.2.2.2.2.2.1
  have hn2 := h.2.2.2.2.2.2.2.2.2.2.2.2.2
  refine nm_r (hx_m72 sd) ⟨pk_in (sd * 72 + z) 144 (by omega) (nI_add _ _), nm_r (e' := nI (W z)) (by rw [nI_add, nI_clamp (by omega)]; exact t.2.2.2 z hz) ⟨z + 1, ?_⟩⟩
  exact hx_slideInner_18 hsd hM hinj hRv hRM (by omega) z (z + 1) k oc iz lz (by omega) h t K
theorem hx_slideLeaf {post : Int32 → SX → Prop} {w jl s p : Nat} {k W : Nat → Nat} (hsd : sd < 2) (hM : M ≤ 34) (hinj : ∀ a b, a ≤ M → b ≤ M → R a = R b → a = b) (hR : R jl = s) (hs : s < 32) (hRv : ∀ j, j ≤ M → R j ≤ 100) (hW0 : W 0 < 2 ^ 30)
    (h : hu_SL M R wt W w jl k p) (t : hu_TX sd M k R W oc sw iz lz)
    (K : ∀ (p' : Nat) (k' : Nat → Nat) (oc' iz' lz' : Nat → Int32), hu_SL M R wt W w jl k' p' → (p' = 0 ∨ k' p' = k' (p' - 1) ∨ W (p' - 1) ≠ w) → p' ≤ p → hu_TX sd M k' R W oc' sw iz' lz' → hu_fr sd oc sw iz lz oc' sw iz' lz' → post (nI p') (eA, eT, eC, rh, rc, pb, pc, ds, tb, tc, un, oc', sw, iz', lz', nd, sn, tx, tn, rg)) :
    wpX_slideLeaf post (eA, eT, eC, rh, rc, pb, pc, ds, tb, tc, un, oc, sw, iz, lz, nd, sn, tx, tn, rg) (nI sd) (nI p) := by
  have hp := h.2.2.2.2.2.1
  have hWp := h.2.2.2.2.2.2.2.2.1
  refine nm_r (hx_m72 sd) ⟨pk_in (sd * 72 + p) 144 (by omega) (nI_add _ _), nm_r (e' := nI w) (by rw [nI_add, nI_clamp (by omega), t.2.2.2 p hp, hWp]) ⟨p + 1, ?_⟩⟩
  exact hx_slideLeaf_18 hsd hM hinj hR hs hRv hW0 p (p + 1) k oc iz lz (by omega) h t K
theorem hu_up_id (R : Nat → Nat) (j : Nat) : hu_up (hu_up R j (R j)) j (R j) = R := by
  funext i
  unfold hu_up
  by_cases c : i = j
  · rw [if_pos c, c]
  · rw [if_neg c, if_neg c]
/-- the leaf reached by leadBlock is the first of its weight -/
theorem hu_lead {A p w : Nat} {k W : Nat → Nat} (h : hu_CI M R wt k W 0 n) (hp : p < 2 * M + 1) (hw : W p = w) (hx : p = 0 ∨ k p = k (p - 1) + 1 ∨ W (p - 1) ≠ w) : ∀ i, i < p → k (i + 1) = k i → w < W i := by
  obtain ⟨hs, hps, ho, ht, _⟩ := h
  intro i hi a
  have o1 := hu_sof ho (i := i) (j := p - 1) (by omega) (by omega)
  have o2 := ho (p - 1) (by omega)
  have e : p - 1 + 1 = p := by omega
  rw [e] at o2
  rcases hx with x | x | x
  · omega
  · have ne : i ≠ p - 1 := by intro z; subst z; rw [e] at a; omega
    have y := hu_tif hs ho ht (i := i) (j := p - 1) (by omega) (by omega) a (by rw [e]; exact x)
    omega
  · omega
theorem hx_leadBlock_33 {post : Int32 → SX → Prop} {a w s : Nat} {k W : Nat → Nat} (hsd : sd < 2) (hM : M ≤ 34) (hCI : hu_CI M R wt k W 0 n) (hn : n < 2 ^ 30) (hinj : ∀ a b, a ≤ M → b ≤ M → R a = R b → a = b) (hRv : ∀ j, j ≤ M → R j ≤ 100)
    (t : hu_TX sd M k R W oc sw iz lz) (ha : a < 2 * M + 1) (hla : k (a + 1) = k a) (hRa : R (a - k a) = s) (hs : s < 32) (hwa : W a = w) (hw1 : 1 ≤ w)
    (hsym : ∀ j, j ≤ M → 1 ≤ hu_lw wt (R j) → R j < 32)
    (K : ∀ (p : Nat) (oc' lz' : Nat → Int32), p < 2 * M + 1 → k (p + 1) = k p → W p = w → (∀ i, i < p → k (i + 1) = k i → w < W i) → hu_TX sd M k (hu_up (hu_up R (a - k a) (R (p - k p))) (p - k p) s) W oc' sw iz lz' → hu_fr sd oc sw iz lz oc' sw iz lz' → post (nI p) (eA, eT, eC, rh, rc, pb, pc, ds, tb, tc, un, oc', sw, iz, lz', nd, sn, tx, tn, rg)) :
    ∀ (p f : Nat), p < f → p ≤ a → k (p + 1) = k p → W p = w → wX_leadBlock_33 post (nI sd) (nI (sd * 72)) (nI a) (nI w) eA eT eC rh rc pb pc ds tb tc un oc sw iz lz nd sn tx tn rg f (nI p) := by
  have hsh := hCI.1
  have ho := hCI.2.2.1
  have hW0 := hCI.2.2.2.2.2.2.2.2
  have J : ∀ p, p ≤ a → k (p + 1) = k p → W p = w → (p = 0 ∨ k p = k (p - 1) + 1 ∨ W (p - 1) ≠ w) → wX_leadBlock_76 post (nI sd) (nI a) (nI p) eA eT eC rh rc pb pc ds tb tc un oc sw iz lz nd sn tx tn rg := by
    intro p hpa hlp hwp hx
    have ld := hu_lead (A := 0) hCI (by omega) hwp hx
    by_cases c : p = a
    · subst c
      refine br_t rfl (K p oc lz ha hla hwa ld ?_ hu_fr_r)
      rw [hRa]
      have := hu_up_id R (p - k p)
      rw [hRa] at this
      rw [this]
      exact t
    · refine br_f (fun z => c ((nI_eq (by omega) (by omega)).mp z)) ?_
      have hr : R (p - k p) < 32 := by
        refine hsym _ (hu_lfM hsh (by omega) hlp) ?_
        rw [← hCI.2.2.2.2.2.1 p (by omega) hlp]
        omega
      have ta := (t.2.1 a ha hla).1
      rw [hRa] at ta
      refine hx_ex_lf hsd (by omega) (by omega) hs hr ta (t.2.1 p (by omega) hlp).1 ?_
      refine K p _ _ (by omega) hlp hwp ld (hu_TX_lf t hsh ha (by omega) hla hlp (fun z => c z.symm) hinj hRa rfl) ?_
      exact hu_fr_lz (hu_fr_lz (hu_fr_oc (hu_fr_oc hu_fr_r (by omega) _) (by omega) _) (by omega) _) (by omega) _
  intro p
  induction p with
  | zero =>
    intro f hf h1 h2 h3
    obtain ⟨f, rfl⟩ : ∃ g, f = g + 1 := ⟨f - 1, by omega⟩
    exact br_t (nI_le (Nat.le_refl 0) (by decide)) (J 0 h1 h2 h3 (Or.inl rfl))
  | succ m ih =>
    intro f hf h1 h2 h3
    obtain ⟨f, rfl⟩ : ∃ g, f = g + 1 := ⟨f - 1, by omega⟩
    have hWm : W m < 2 ^ 30 := Nat.lt_of_le_of_lt (hu_sof ho (Nat.zero_le m) (by omega)) (by omega)
    have hw : w < 2 ^ 30 := by
      have := hu_sof ho (Nat.zero_le a) (by omega)
      omega
    have e := hx_cb1 (b := sd * 72) (m := m) (by omega) (by omega)
    refine br_f (nI_nle (by omega) (by omega)) ⟨pk_in (sd * 72 + m) 144 (by omega) (hx_b1 _ _), ?_⟩
    rw [e]
    rcases hsh.2.2 m (by omega) with c | c
    · have v := hRv (m - k m) (hu_lfM hsh (by omega) c)
      rw [(t.2.1 m (by omega) c).1]
      refine br_f (nI_ge (b := 101) (by omega) (by omega)) ⟨pk_in (sd * 72 + m) 144 (by omega) (hx_b1 _ _), ?_⟩
      rw [t.2.2.2 m (by omega)]
      by_cases hw2 : W m = w
      · exact br_t (by rw [hw2]) (nm_r (pk_m1 m) (ih f (by omega) (by omega) c hw2))
      · exact br_f (fun x => hw2 ((nI_eq (by omega) (by omega)).mp x)) (J (m + 1) h1 h2 h3 (Or.inr (Or.inr hw2)))
    · have hkM := hu_inM hsh (i := m) (by omega) c
      rw [(t.1 m (by omega) c).1]
      exact br_t (nI_le (a := 101) (by omega) (by omega)) (J (m + 1) h1 h2 h3 (Or.inr (Or.inl c)))
theorem hx_leadBlock {post : Int32 → SX → Prop} {a w s : Nat} {k W : Nat → Nat} (hsd : sd < 2) (hM : M ≤ 34) (hCI : hu_CI M R wt k W 0 n) (hn : n < 2 ^ 30) (hinj : ∀ a b, a ≤ M → b ≤ M → R a = R b → a = b) (hRv : ∀ j, j ≤ M → R j ≤ 100)
    (t : hu_TX sd M k R W oc sw iz lz) (ha : a < 2 * M + 1) (hla : k (a + 1) = k a) (hRa : R (a - k a) = s) (hs : s < 32) (hwa : W a = w) (hw1 : 1 ≤ w)
    (hsym : ∀ j, j ≤ M → 1 ≤ hu_lw wt (R j) → R j < 32)
    (K : ∀ (p : Nat) (oc' lz' : Nat → Int32), p < 2 * M + 1 → k (p + 1) = k p → W p = w → (∀ i, i < p → k (i + 1) = k i → w < W i) → hu_TX sd M k (hu_up (hu_up R (a - k a) (R (p - k p))) (p - k p) s) W oc' sw iz lz' → hu_fr sd oc sw iz lz oc' sw iz lz' → post (nI p) (eA, eT, eC, rh, rc, pb, pc, ds, tb, tc, un, oc', sw, iz, lz', nd, sn, tx, tn, rg)) :
    wpX_leadBlock post (eA, eT, eC, rh, rc, pb, pc, ds, tb, tc, un, oc, sw, iz, lz, nd, sn, tx, tn, rg) (nI sd) (nI s) := by
  have ta := (t.2.1 a ha hla).2
  rw [hRa] at ta
  refine nm_r (hx_m72 sd) ⟨pk_in (sd * 32 + s) 64 (by omega) (hx_32 _ _), nm_r (e' := nI a) (by rw [hx_c32 hsd (by omega)]; exact ta hs) ⟨pk_in (sd * 72 + a) 144 (by omega) (nI_add _ _), nm_r (e' := nI w) (by rw [nI_add, nI_clamp (by omega), t.2.2.2 a ha, hwa]) ⟨a + 1, ?_⟩⟩⟩
  exact hx_leadBlock_33 hsd hM hCI hn hinj hRv t ha hla hRa hs hwa hw1 hsym K a (a + 1) (by omega) (Nat.le_refl _) hla hwa
end
end
section
/-! climb -/
section
variable {sd M n : Nat} {R wt : Nat → Nat}
variable {eA eT eC rh rc pb pc ds tb tc un : Int32} {oc sw iz lz nd sn tx tn rg : Nat → Int32}
theorem hx_climb_5 {post : SX → Prop} (hsd : sd < 2) (hM : M ≤ 34) (hinj : ∀ a b, a ≤ M → b ≤ M → R a = R b → a = b) (hRv : ∀ j, j < M → R j < 32) (hRM : R M ≤ 100) (hn : n < 2 ^ 30) :
    ∀ (b q f st : Nat) (k W : Nat → Nat) (oc sw iz lz : Nat → Int32), q ≤ b → q < f → q + st ≤ 71 → (q = 0 → hu_CI M R wt k W 0 n) →
    (q ≠ 0 → ∃ z, z < q ∧ z < 2 * M + 1 ∧ k (z + 1) = k z + 1 ∧ k z = (q - 1) / 2 ∧ hu_SI M R wt (hu_up W z (W z + 1)) z n k z) → hu_TX sd M k R W oc sw iz lz →
    (∀ (k' W' : Nat → Nat) (oc' sw' iz' lz' : Nat → Int32), hu_CI M R wt k' W' 0 n → hu_TX sd M k' R W' oc' sw' iz' lz' → hu_fr sd oc sw iz lz oc' sw' iz' lz' → post (eA, eT, eC, rh, rc, pb, pc, ds, tb, tc, un, oc', sw', iz', lz', nd, sn, tx, tn, rg)) →
    wX_climb_5 post (nI sd) f (nI q) (nI st) eA eT eC rh rc pb pc ds tb tc un oc sw iz lz nd sn tx tn rg := by
  intro b
  induction b with
  | zero =>
    intro q f st k W oc sw iz lz hb hf hst h0 _ t K
    obtain ⟨f, rfl⟩ : ∃ g, f = g + 1 := ⟨f - 1, by omega⟩
    have e : q = 0 := by omega
    subst e
    exact br_f (nI_ge (b := 72) (by omega) (by omega)) (br_t (nI_le (Nat.le_refl 0) (by decide)) (K k W oc sw iz lz (h0 rfl) t hu_fr_r))
  | succ b ih =>
    intro q f st k W oc sw iz lz hb hf hst h0 h1 t K
    obtain ⟨f, rfl⟩ : ∃ g, f = g + 1 := ⟨f - 1, by omega⟩
    by_cases q0 : q = 0
    · subst q0
      exact br_f (nI_ge (b := 72) (by omega) (by omega)) (br_t (nI_le (Nat.le_refl 0) (by decide)) (K k W oc sw iz lz (h0 rfl) t hu_fr_r))
    · obtain ⟨z, hzq, hz, hin, hk, hSI⟩ := h1 q0
      refine br_f (nI_ge (b := 72) (by omega) (by omega)) (br_f (nI_nle (by omega) (by omega)) ?_)
      refine hx_parent hsd (by omega) (by omega) (z := z) (by rw [← hk]; exact (t.1 z hz hin).2) ?_
      refine ⟨pk_in (sd * 72 + z) 144 (by omega) (hx_72 _ _), pk_in (sd * 72 + z) 144 (by omega) (hx_72 _ _), nm_r (e' := upd sw (sd * 72 + z) (nI (W z + 1))) (by rw [hx_c72 hsd (by omega), t.2.2.2 z hz, nI_1]) ?_⟩
      refine hx_slideInner hsd hM hinj hRv hRM hn hSI (hu_TX_w t z _) ?_
      intro k' oc' iz' lz' a1 a2 a3
      refine nm_r (nI_1 st) (ih z f (st + 1) k' _ oc' _ iz' lz' (by omega) (by omega) (by omega) ?_ ?_ a2 ?_)
      · intro e; subst e; exact a1
      · intro z0
        obtain ⟨y, y1, y2, y3⟩ := hu_exIn a1.1 (2 * M + 1) (Nat.le_refl _) ((z - 1) / 2) (by rw [a1.1.2.1]; omega)
        have u := hu_CI_up a1 z0 y1 (by omega) y2
        exact ⟨y, u.1, y1, by omega, y2, u.2⟩
      · intro k2 W2 oc2 sw2 iz2 lz2 b1 b2 b3
        exact K k2 W2 oc2 sw2 iz2 lz2 b1 b2 (hu_fr_t (hu_fr_t (hu_fr_sw hu_fr_r (by omega) _) a3) b3)
theorem hx_climb {post : SX → Prop} {q : Nat} {k W : Nat → Nat} (hsd : sd < 2) (hM : M ≤ 34) (hinj : ∀ a b, a ≤ M → b ≤ M → R a = R b → a = b) (hRv : ∀ j, j < M → R j < 32) (hRM : R M ≤ 100) (hn : n < 2 ^ 30) (hq : q < 70)
    (h0 : q = 0 → hu_CI M R wt k W 0 n)
    (h1 : q ≠ 0 → ∃ z, z < q ∧ z < 2 * M + 1 ∧ k (z + 1) = k z + 1 ∧ k z = (q - 1) / 2 ∧ hu_SI M R wt (hu_up W z (W z + 1)) z n k z) (t : hu_TX sd M k R W oc sw iz lz)
    (K : ∀ (k' W' : Nat → Nat) (oc' sw' iz' lz' : Nat → Int32), hu_CI M R wt k' W' 0 n → hu_TX sd M k' R W' oc' sw' iz' lz' → hu_fr sd oc sw iz lz oc' sw' iz' lz' → post (eA, eT, eC, rh, rc, pb, pc, ds, tb, tc, un, oc', sw', iz', lz', nd, sn, tx, tn, rg)) :
    wpX_climb post (eA, eT, eC, rh, rc, pb, pc, ds, tb, tc, un, oc, sw, iz, lz, nd, sn, tx, tn, rg) (nI sd) (nI q) :=
  ⟨q + 1, hx_climb_5 hsd hM hinj hRv hRM hn q q (q + 1) 0 k W oc sw iz lz (Nat.le_refl _) (by omega) (by omega) h0 h1 t K⟩
/-- from a slot whose weight has just risen, the laws holding elsewhere -/
theorem hx_climb_CI {post : SX → Prop} {q : Nat} {k W : Nat → Nat} (hsd : sd < 2) (hM : M ≤ 34) (hinj : ∀ a b, a ≤ M → b ≤ M → R a = R b → a = b) (hRv : ∀ j, j < M → R j < 32) (hRM : R M ≤ 100) (hn : n < 2 ^ 30)
    (h : hu_CI M R wt k W q n) (t : hu_TX sd M k R W oc sw iz lz)
    (K : ∀ (k' W' : Nat → Nat) (oc' sw' iz' lz' : Nat → Int32), hu_CI M R wt k' W' 0 n → hu_TX sd M k' R W' oc' sw' iz' lz' → hu_fr sd oc sw iz lz oc' sw' iz' lz' → post (eA, eT, eC, rh, rc, pb, pc, ds, tb, tc, un, oc', sw', iz', lz', nd, sn, tx, tn, rg)) :
    wpX_climb post (eA, eT, eC, rh, rc, pb, pc, ds, tb, tc, un, oc, sw, iz, lz, nd, sn, tx, tn, rg) (nI sd) (nI q) := by
  have hq := h.2.2.2.2.2.2.1
  refine hx_climb hsd hM hinj hRv hRM hn (by omega) (fun e => by subst e; exact h) (fun q0 => ?_) t K
  obtain ⟨y, y1, y2, y3⟩ := hu_exIn h.1 (2 * M + 1) (Nat.le_refl _) ((q - 1) / 2) (by rw [h.1.2.1]; omega)
  have u := hu_CI_up h q0 y1 (by omega) y2
  exact ⟨y, u.1, y1, by omega, y2, u.2⟩
end
end
section
/-! introduce, retireEscape -/
section
variable {sd M m n : Nat} {k R wt W : Nat → Nat}
variable {eA eT eC rh rc pb pc ds tb tc un : Int32} {oc sw iz lz nd sn tx tn rg : Nat → Int32}
theorem hx_introduce {post : Int32 → SX → Prop} {s : Nat} (hsd : sd < 2) (hM : M ≤ 33) (hs : s < 32) (hnd : nd sd = nI (2 * M + 1))
    (h : post (nI (2 * M + 1)) (eA, eT, eC, rh, rc, pb, pc, ds, tb, tc, un, upd (upd (upd oc (sd * 72 + 2 * M) (nI (101 + M))) (sd * 72 + (2 * M + 1)) (nI s)) (sd * 72 + (2 * M + 2)) (nI 100), upd (upd sw (sd * 72 + (2 * M + 1)) 0) (sd * 72 + (2 * M + 2)) 0, upd iz (sd * 36 + M) (nI (2 * M)), upd lz (sd * 32 + s) (nI (2 * M + 1)), upd nd sd (nI (2 * M + 3)), upd sn sd (sn sd + 1), tx, tn, rg)) :
    wpX_introduce post (eA, eT, eC, rh, rc, pb, pc, ds, tb, tc, un, oc, sw, iz, lz, nd, sn, tx, tn, rg) (nI sd) (nI s) := by
  have csd : (nI sd).toNatClampNeg = sd := nI_clamp (by omega)
  have in2 : vp_in (nI sd) 2 := vp_in_nI hsd (by omega)
  have e1 : nI (2 * M + 1) - 1 = nI (2 * M) := nI_pred _
  have e2 : (101 : Int32) + nI M = nI (101 + M) := nI_add 101 M
  have e3 : nI sd * 72 + nI (2 * M + 1) + 1 = nI (sd * 72 + (2 * M + 2)) := by rw [hx_72, nI_1]; exact congrArg nI (by omega)
  refine ⟨in2, nm_r (e' := nI (2 * M + 1)) (by rw [csd, hnd]) (nm_r (e' := nI M) (by rw [hx_half (by omega) (by omega)]; exact congrArg nI (by omega)) ?_)⟩
  rw [e1, e2]
  refine hx_place_in hsd (by omega) (by omega) ?_
  refine hx_place_lf hsd (by omega) hs ?_
  rw [nI_1 (2 * M + 1)]
  refine hx_place_E hsd (by omega) ?_
  refine ⟨pk_in (sd * 72 + (2 * M + 1)) 144 (by omega) (hx_72 _ _), nm_r (e' := upd sw (sd * 72 + (2 * M + 1)) 0) (by rw [hx_c72 hsd (by omega)]) ?_⟩
  refine ⟨pk_in (sd * 72 + (2 * M + 2)) 144 (by omega) e3, nm_r (e' := upd (upd sw (sd * 72 + (2 * M + 1)) 0) (sd * 72 + (2 * M + 2)) 0) (by rw [e3, nI_clamp (by omega)]) ?_⟩
  refine ⟨in2, nm_r (e' := upd nd sd (nI (2 * M + 3))) (by rw [csd]; exact congrArg _ (nI_add (2 * M + 1) 2)) ⟨in2, in2, nm_r (e' := upd sn sd (sn sd + 1)) (by rw [csd]) h⟩⟩
/-- the state inside retireEscape: the leaves behind the hole h move up, i of them to go -/
def hu_RT (sd m h i : Nat) (k R W : Nat → Nat) (oc sw iz lz : Nat → Int32) : Prop :=
  (∀ x, x < h → k (x + 1) = k x + 1 → oc (sd * 72 + x) = nI (101 + k x) ∧ iz (sd * 36 + k x) = nI x)
  ∧ (∀ x, x < h → k (x + 1) = k x → oc (sd * 72 + x) = nI (R (x - k x)) ∧ (R (x - k x) < 32 → lz (sd * 32 + R (x - k x)) = nI x))
  ∧ (∀ x, h ≤ x → x < i → oc (sd * 72 + x) = nI (R (x - m)) ∧ (R (x - m) < 32 → lz (sd * 32 + R (x - m)) = nI x))
  ∧ (∀ x, i < x → x ≤ 2 * m + 2 → oc (sd * 72 + x) = nI (R (x - (m + 1))) ∧ (R (x - (m + 1)) < 32 → lz (sd * 32 + R (x - (m + 1))) = nI x))
  ∧ (∀ s, s < 32 → (∀ j, j ≤ m + 1 → R j ≠ s) → lz (sd * 32 + s) = 0)
  ∧ (∀ x, x ≤ 2 * m + 2 → sw (sd * 72 + x) = nI (W x))
theorem hu_RT_0 {h : Nat} (hs : hu_sh (m + 1) k) (hh : h < 2 * m + 3) (hk : k h = m) (hk1 : k (h + 1) = m + 1) (t : hu_TX sd (m + 1) k R W oc sw iz lz) : hu_RT sd m h h k R W oc sw iz lz := by
  obtain ⟨t1, t2, t3, t4⟩ := t
  have af : ∀ x, h < x → x ≤ 2 * m + 3 → k x = m + 1 := by
    intro x a b
    have := (hu_mo hs (i := h + 1) (j := x) (by omega) (by omega)).1
    have := (hu_kid hs (i := x) (by omega)).2.1
    omega
  refine ⟨fun x a => t1 x (by omega), fun x a => t2 x (by omega), fun x a b => by omega, fun x a b => ?_, t3, fun x a => t4 x (by omega)⟩
  have y := t2 x (by omega) (by rw [af x a (by omega), af (x + 1) (by omega) (by omega)])
  rw [af x a (by omega)] at y
  exact y
theorem hu_RT_step {h i : Nat} (hs : hu_sh (m + 1) k) (hh : h ≤ 2 * m) (hk : k h = m) (hk1 : k (h + 1) = m + 1) (hinj : ∀ a b, a ≤ m + 1 → b ≤ m + 1 → R a = R b → a = b)
    (hi : h ≤ i) (hi2 : i < 2 * m + 1) (hW : W (i + 1) = W i) (r : hu_RT sd m h i k R W oc sw iz lz) :
    hu_RT sd m h (i + 1) k R W (upd oc (sd * 72 + i) (nI (R (i - m)))) (upd sw (sd * 72 + i) (sw (sd * 72 + (i + 1)))) iz (upd lz (sd * 32 + R (i - m)) (nI i)) := by
  obtain ⟨r1, r2, r3, r4, r5, r6⟩ := r
  have kh := (hu_kid hs (i := h) (by omega)).1
  refine ⟨fun x a b => ?_, fun x a b => ?_, fun x a b => ?_, fun x a b => ?_, fun s a b => ?_, fun x a => ?_⟩
  · rw [pk_un (by omega)]; exact r1 x a b
  · rw [pk_un (by omega)]
    refine ⟨(r2 x a b).1, fun c => ?_⟩
    have ne : R (x - k x) ≠ R (i - m) := by
      intro z
      have y := hinj _ _ (hu_lfM hs (by omega) b) (by omega) z
      have z1 := (hu_mo hs (i := x + 1) (j := h) (by omega) (by omega)).2
      have z2 := (hu_kid hs (i := x) (by omega)).1
      omega
    rw [pk_un (by omega)]
    exact (r2 x a b).2 c
  · by_cases c : x = i
    · subst c
      rw [pk_us]
      exact ⟨rfl, fun _ => pk_us⟩
    · rw [pk_un (by omega)]
      have y := r3 x a (by omega)
      refine ⟨y.1, fun d => ?_⟩
      have ne : R (x - m) ≠ R (i - m) := by
        intro z
        have := hinj _ _ (by omega) (by omega) z
        omega
      rw [pk_un (by omega)]
      exact y.2 d
  · rw [pk_un (by omega)]
    have y := r4 x (by omega) b
    refine ⟨y.1, fun d => ?_⟩
    have ne : R (x - (m + 1)) ≠ R (i - m) := by
      intro z
      have := hinj _ _ (by omega) (by omega) z
      omega
    rw [pk_un (by omega)]
    exact y.2 d
  · have ne : s ≠ R (i - m) := fun z => b (i - m) (by omega) z.symm
    rw [pk_un (by omega)]
    exact r5 s a b
  · by_cases c : x = i
    · subst c
      rw [pk_us, r6 (x + 1) (by omega), hW]
    · rw [pk_un (by omega)]
      exact r6 x a
def hu_kr (h m : Nat) (k : Nat → Nat) : Nat → Nat := fun x => if x ≤ h then k x else m
theorem hu_RT_end {h : Nat} (hh : h ≤ 2 * m) (hk : k h = m) (hE : R (m + 1) = 100) (r : hu_RT sd m h (2 * m + 1) k R W oc sw iz lz) : hu_TX sd m (hu_kr h m k) R W oc sw iz lz := by
  obtain ⟨r1, r2, r3, r4, r5, r6⟩ := r
  have k0 : ∀ i, i ≤ h → hu_kr h m k i = k i := fun i hi => if_pos hi
  have k1 : ∀ i, h < i → hu_kr h m k i = m := fun i hi => if_neg (by omega)
  have k2 : ∀ i, h ≤ i → hu_kr h m k i = m := fun i hi => by
    by_cases c : i = h
    · rw [c, k0 h (Nat.le_refl _), hk]
    · exact k1 i (by omega)
  refine ⟨fun i hi => ?_, fun i hi => ?_, fun s a b => ?_, fun i hi => r6 i (by omega)⟩
  · by_cases c : i < h
    · rw [k0 i (by omega), k0 (i + 1) (by omega)]
      exact r1 i c
    · rw [k2 i (by omega), k1 (i + 1) (by omega)]
      intro; omega
  · by_cases c : i < h
    · rw [k0 i (by omega), k0 (i + 1) (by omega)]
      exact r2 i c
    · rw [k2 i (by omega)]
      intro _
      exact r3 i (by omega) (by omega)
  · refine r5 s a (fun j hj z => ?_)
    by_cases c : j = m + 1
    · rw [c] at z; omega
    · exact b j (by omega) z
theorem hu_CI_re {h : Nat} (c : hu_CI (m + 1) R wt k W 0 n) (hh : h < 2 * m + 3) (hk : k h = m) (hk1 : k (h + 1) = m + 1) (hE : W (2 * m + 2) = 0) :
    h ≤ 2 * m ∧ (∀ i, h ≤ i → i < 2 * m + 1 → W (i + 1) = W i) ∧ hu_CI m R wt (hu_kr h m k) W 0 n := by
  obtain ⟨hs, hp, ho, ht, hu, hl, h1, hn1, hn2⟩ := c
  have ph := hp h (by omega) (by omega)
  have sh := hu h (by omega) (by omega)
  rw [hu_df0, hk] at sh
  have af : ∀ x, h < x → x ≤ 2 * m + 3 → k x = m + 1 := by
    intro x a b
    have := (hu_mo hs (i := h + 1) (j := x) (by omega) (by omega)).1
    have := (hu_kid hs (i := x) (by omega)).2.1
    omega
  have k0 : ∀ i, i ≤ h → hu_kr h m k i = k i := fun i hi => if_pos hi
  have k1 : ∀ i, h < i → hu_kr h m k i = m := fun i hi => if_neg (by omega)
  have k2 : ∀ i, h ≤ i → hu_kr h m k i = m := fun i hi => by
    by_cases c : i = h
    · rw [c, k0 h (Nat.le_refl _), hk]
    · exact k1 i (by omega)
  have wc : ∀ i, h ≤ i → i < 2 * m + 1 → W (i + 1) = W i := by
    intro i a b
    have o1 := hu_sof ho (i := h) (j := i) a (by omega)
    have o2 := hu_sof ho (i := i) (j := i + 1) (by omega) (by omega)
    have o3 := hu_sof ho (i := i + 1) (j := 2 * m + 1) (by omega) (by omega)
    omega
  refine ⟨by omega, wc, ⟨?_, ?_, ?_⟩, ?_, ?_, ?_, ?_, ?_, by omega, fun z => absurd rfl z, hn2⟩
  · rw [k0 0 (by omega)]; exact hs.1
  · exact k1 _ (by omega)
  · intro i hi
    by_cases c : i < h
    · rw [k0 i (by omega), k0 (i + 1) (by omega)]
      exact hs.2.2 i (by omega)
    · rw [k2 i (by omega), k1 (i + 1) (by omega)]
      left; rfl
  · intro i hi
    by_cases c : i < h
    · rw [k0 i (by omega), k0 (i + 1) (by omega)]
      exact hp i (by omega)
    · rw [k2 i (by omega), k1 (i + 1) (by omega)]
      intro; omega
  · intro i hi
    exact ho i (by omega)
  · intro i hi
    by_cases c : i + 1 < h
    · rw [k0 i (by omega), k0 (i + 1) (by omega), k0 (i + 2) (by omega)]
      exact ht i (by omega)
    · rw [k2 (i + 1) (by omega), k1 (i + 2) (by omega)]
      intro _ z; omega
  · intro i hi
    by_cases c : i < h
    · rw [k0 i (by omega), k0 (i + 1) (by omega)]
      exact hu i (by omega)
    · rw [k2 i (by omega), k1 (i + 1) (by omega)]
      intro; omega
  · intro i hi
    by_cases c : i < h
    · rw [k0 i (by omega), k0 (i + 1) (by omega)]
      exact hl i (by omega)
    · rw [k2 i (by omega), k1 (i + 1) (by omega)]
      intro _
      have y := hl (i + 1) (by omega) (by rw [af (i + 1) (by omega) (by omega), af (i + 1 + 1) (by omega) (by omega)])
      rw [af (i + 1) (by omega) (by omega), wc i (by omega) hi] at y
      have e : i + 1 - (m + 1) = i - m := by omega
      rw [e] at y
      exact y
theorem hx_retire_26 {post : SX → Prop} {h : Nat} (hsd : sd < 2) (hm : m ≤ 33) (hs : hu_sh (m + 1) k) (hh : h ≤ 2 * m) (hk : k h = m) (hk1 : k (h + 1) = m + 1) (hinj : ∀ a b, a ≤ m + 1 → b ≤ m + 1 → R a = R b → a = b)
    (hRv : ∀ j, j ≤ m → R j < 32) (hW : ∀ i, h ≤ i → i < 2 * m + 1 → W (i + 1) = W i) :
    ∀ (d i f : Nat) (oc sw lz : Nat → Int32), i + d = 2 * m + 1 → d < f → h ≤ i → hu_RT sd m h i k R W oc sw iz lz →
    (∀ (oc' sw' lz' : Nat → Int32), hu_RT sd m h (2 * m + 1) k R W oc' sw' iz lz' → hu_fr sd oc sw iz lz oc' sw' iz lz' → post (eA, eT, eC, rh, rc, pb, pc, ds, tb, tc, un, oc', sw', iz, lz', upd nd sd (nI (2 * m + 1)), sn, tx, tn, rg)) →
    wX_retireEscape_26 post (nI sd) (nI (sd * 72)) (nI (2 * m + 2)) f (nI i) eA eT eC rh rc pb pc ds tb tc un oc sw iz lz nd sn tx tn rg := by
  intro d
  have e1 : nI (2 * m + 2) - 1 = nI (2 * m + 1) := nI_pred (2 * m + 1)
  have csd : (nI sd).toNatClampNeg = sd := nI_clamp (by omega)
  induction d with
  | zero =>
    intro i f oc sw lz hid hf hi r K
    obtain ⟨f, rfl⟩ : ∃ g, f = g + 1 := ⟨f - 1, by omega⟩
    have e : i = 2 * m + 1 := by omega
    subst e
    refine br_t (by rw [e1]; exact nI_le (Nat.le_refl _) (by omega)) ⟨vp_in_nI hsd (by omega), nm_r (e' := upd nd sd (nI (2 * m + 1))) (by rw [csd, e1]) (K oc sw lz r hu_fr_r)⟩
  | succ d ih =>
    intro i f oc sw lz hid hf hi r K
    obtain ⟨f, rfl⟩ : ∃ g, f = g + 1 := ⟨f - 1, by omega⟩
    have e2 : nI (sd * 72) + nI i + 1 = nI (sd * 72 + (i + 1)) := by rw [nI_add, nI_1]; exact congrArg nI (by omega)
    have e3 : nI (sd * 72) + nI i = nI (sd * 72 + i) := nI_add _ _
    have r4 := r.2.2.2.1 (i + 1) (by omega) (by omega)
    have e4 : i + 1 - (m + 1) = i - m := by omega
    rw [e4] at r4
    have v := hRv (i - m) (by omega)
    refine br_f (by rw [e1]; exact nI_ge (by omega) (by omega)) ⟨pk_in (sd * 72 + (i + 1)) 144 (by omega) e2, nm_r (e' := nI (R (i - m))) (by rw [e2, nI_clamp (by omega), r4.1]) ?_⟩
    refine hx_place_lf hsd (by omega) v ?_
    refine ⟨pk_in (sd * 72 + (i + 1)) 144 (by omega) e2, pk_in (sd * 72 + i) 144 (by omega) e3, nm_r (e' := upd sw (sd * 72 + i) (sw (sd * 72 + (i + 1)))) (by rw [e2, e3, nI_clamp (by omega), nI_clamp (by omega)]) ?_⟩
    refine nm_r (nI_1 i) (ih (i + 1) f _ _ _ (by omega) (by omega) (by omega) (hu_RT_step hs hh hk hk1 hinj hi (by omega) (hW i hi (by omega)) r) ?_)
    intro oc' sw' lz' a1 a2
    exact K oc' sw' lz' a1 (hu_fr_t (hu_fr_lz (hu_fr_sw (hu_fr_oc hu_fr_r (by omega) _) (by omega) _) (by omega) _) a2)
theorem hx_retire {post : SX → Prop} (hsd : sd < 2) (hm : m ≤ 33) (hnd : nd sd = nI (2 * m + 3)) (hCI : hu_CI (m + 1) R wt k W 0 n) (hinj : ∀ a b, a ≤ m + 1 → b ≤ m + 1 → R a = R b → a = b)
    (hRv : ∀ j, j ≤ m → R j < 32) (hE : R (m + 1) = 100) (t : hu_TX sd (m + 1) k R W oc sw iz lz)
    (K : ∀ (k' : Nat → Nat) (oc' sw' lz' : Nat → Int32), hu_CI m R wt k' W 0 n → hu_TX sd m k' R W oc' sw' iz lz' → hu_fr sd oc sw iz lz oc' sw' iz lz' → post (eA, eT, eC, rh, rc, pb, pc, ds, tb, tc, un, oc', sw', iz, lz', upd nd sd (nI (2 * m + 1)), sn, tx, tn, rg)) :
    wpX_retireEscape post (eA, eT, eC, rh, rc, pb, pc, ds, tb, tc, un, oc, sw, iz, lz, nd, sn, tx, tn, rg) (nI sd) := by
  have csd : (nI sd).toNatClampNeg = sd := nI_clamp (by omega)
  have in2 : vp_in (nI sd) 2 := vp_in_nI hsd (by omega)
  have hs := hCI.1
  have l0 := hu_last hs hCI.2.1
  have e0 : 2 * (m + 1) = 2 * m + 2 := by omega
  rw [e0] at l0
  have WE : W (2 * m + 2) = 0 := by
    have y := hCI.2.2.2.2.2.1 (2 * m + 2) (by omega) (by have := hs.2.1; rw [e0] at this; rw [this, l0])
    have e : 2 * m + 2 - k (2 * m + 2) = m + 1 := by omega
    rw [e, hE] at y
    exact y
  obtain ⟨h, h1, h2, h3⟩ := hu_exIn hs (2 * (m + 1) + 1) (Nat.le_refl _) m (by rw [hs.2.1]; omega)
  obtain ⟨c1, c2, c3⟩ := hu_CI_re hCI (by omega) h2 h3 WE
  refine nm_r (hx_m72 sd) ⟨in2, nm_r (e' := nI (2 * m + 2)) (by rw [csd, hnd]; exact nI_pred _) ?_⟩
  refine hx_parent hsd (by omega) (by omega) (z := h) ?_ ⟨2 * m + 2 - h, ?_⟩
  · have e : (2 * m + 2 - 1) / 2 = k h := by omega
    rw [e]
    exact (t.1 h h1 (by omega)).2
  · refine hx_retire_26 hsd hm hs c1 h2 h3 hinj hRv c2 (2 * m + 1 - h) h _ oc sw lz (by omega) (by omega) (Nat.le_refl _) (hu_RT_0 hs (by omega) h2 h3 t) ?_
    intro oc' sw' lz' a1 a2
    exact K _ oc' sw' lz' c3 (hu_RT_end c1 h2 hE a1) a2
end
end
section
/-! the component's update of one side's tree -/
section
variable {sd A M n : Nat} {k R wt W : Nat → Nat}
variable {eA eT eC rh rc pb pc ds tb tc un : Int32} {oc sw iz lz nd sn tx tn rg : Nat → Int32}
/-- the component's tree of side sd is that of (M, R, wt) -/
def hu_XT (sd A n M : Nat) (R wt k W : Nat → Nat) (oc sw iz lz nd sn : Nat → Int32) : Prop :=
  hu_ro A M R wt ∧ hu_CI M R wt k W 0 n ∧ hu_TX sd M k R W oc sw iz lz ∧ nd sd = nI (2 * M + 1) ∧ sn sd = nI (A - hu_cz wt A)
theorem hu_pos (hr : hu_ro A M R wt) (h : hu_CI M R wt k W 0 n) {i : Nat} (hi : i < 2 * M) : 1 ≤ W i := by
  obtain ⟨hs, hp, ho, ht, hu, hl, _⟩ := h
  have l1 := hu_last2 hs hp (by omega)
  have l0 := hu_last hs hp
  have e : 2 * M - 1 + 1 = 2 * M := by omega
  have y := hl (2 * M - 1) (by omega) (by rw [e, l0, l1])
  have e2 : 2 * M - 1 - k (2 * M - 1) = M - 1 := by omega
  rw [e2] at y
  have z := hr.2.2.2.1 (M - 1) (by omega)
  have hA := hr.2.1
  unfold hu_lw at y
  rw [if_neg (by omega)] at y
  have o := hu_sof ho (i := i) (j := 2 * M - 1) (by omega) (by omega)
  omega
theorem hu_E0 (hr : R M = 100) (h : hu_CI M R wt k W 0 n) : W (2 * M) = 0 := by
  obtain ⟨hs, hp, ho, ht, hu, hl, _⟩ := h
  have l0 := hu_last hs hp
  have y := hl (2 * M) (by omega) (by rw [hs.2.1, l0])
  have e2 : 2 * M - k (2 * M) = M := by omega
  rw [e2, hr] at y
  exact y
/-- beside E: the parent of the leaf at 2M-1 stands right above it, all others are heavier -/
theorem hu_BEpre {w : Nat} (h : hu_CI M R wt k W 0 n) (hM : 1 ≤ M) (hw : W (2 * M - 1) = w) (hw1 : 1 ≤ w) (hE : W (2 * M) = 0) (hb : ∀ i, i < 2 * M - 1 → k (i + 1) = k i → w < W i) :
    k (2 * M - 2) = M - 1 ∧ W (2 * M - 2) = w ∧ ∀ i, i < 2 * M - 2 → w + 1 ≤ W i := by
  obtain ⟨hs, hp, ho, ht, hu, hl, _⟩ := h
  obtain ⟨z, z1, z2, z3⟩ := hu_exIn hs (2 * M + 1) (Nat.le_refl _) (M - 1) (by rw [hs.2.1]; omega)
  have pz := hp z z1 (by omega)
  have sz := hu z z1 (by omega)
  rw [hu_df0, z2] at sz
  have e1 : 2 * (M - 1) + 1 = 2 * M - 1 := by omega
  have e2 : 2 * (M - 1) + 2 = 2 * M := by omega
  rw [e1, e2, hw, hE] at sz
  have ez : z = 2 * M - 2 := by
    by_cases c : z = 2 * M - 2
    · exact c
    · exfalso
      have lf : k (z + 1 + 1) = k (z + 1) := by
        have a := (hu_mo hs (i := z + 1) (j := z + 1 + 1) (by omega) (by omega)).1
        have b := (hu_kid hs (i := z + 1 + 1) (by omega)).2.1
        omega
      have x := hb (z + 1) (by omega) lf
      have o := hu_sof ho (i := z) (j := z + 1) (by omega) (by omega)
      omega
  subst ez
  refine ⟨z2, by omega, fun i hi => ?_⟩
  rcases hs.2.2 i (by omega) with c | c
  · exact hb i (by omega) c
  · have x := hu i (by omega) c
    rw [hu_df0] at x
    have kn : k i ≠ M - 1 := fun e => by
      have := hu_inU hs (by omega) z1 c (by omega) (by omega : k i = k (2 * M - 2))
      omega
    have km := hu_inM hs (i := i) (by omega) c
    have o1 := hu_sof ho (i := 2 * k i + 1) (j := 2 * M - 2) (by omega) (by omega)
    have o2 := hu_sof ho (i := 2 * k i + 2) (j := 2 * M - 2) (by omega) (by omega)
    omega
theorem hu_CI_R {R' : Nat → Nat} (h : hu_CI M R wt k W 0 n) (e : ∀ j, hu_lw wt (R' j) = hu_lw wt (R j)) : hu_CI M R' wt k W 0 n := by
  obtain ⟨hs, hp, ho, ht, hu, hl, h1⟩ := h
  refine ⟨hs, hp, ho, ht, hu, fun i hi a => ?_, h1⟩
  rw [e]
  exact hl i hi a
theorem hx_up102 {post : SX → Prop} {p w q3 : Nat} (hsd : sd < 2) (hM : M ≤ 34) (hinj : ∀ a b, a ≤ M → b ≤ M → R a = R b → a = b) (hRv : ∀ j, j < M → R j < 32) (hRM : R M ≤ 100) (hn : n < 2 ^ 30) (hp : p < 2 * M + 1) (hw : W p = w)
    (h0 : p = 0 → hu_CI M R wt k (hu_up W p (w + 1)) 0 n)
    (h1 : p ≠ 0 → ∃ z, z < p ∧ z < 2 * M + 1 ∧ k (z + 1) = k z + 1 ∧ k z = (p - 1) / 2 ∧ hu_SI M R wt (hu_up (hu_up W p (w + 1)) z (hu_up W p (w + 1) z + 1)) z n k z) (t : hu_TX sd M k R W oc sw iz lz)
    (K : ∀ (k' W' : Nat → Nat) (oc' sw' iz' lz' : Nat → Int32), hu_CI M R wt k' W' 0 n → hu_TX sd M k' R W' oc' sw' iz' lz' → hu_fr sd oc sw iz lz oc' sw' iz' lz' →
      ((nI q3 = 0 → post (eA, eT, eC, rh, rc, pb, pc, ds, tb, tc, un, oc', sw', iz', lz', nd, sn, tx, tn, rg)) ∧ (¬ nI q3 = 0 → (vp_in (nI sd) 2 ∧ (((sn (nI sd).toNatClampNeg = eA → (wpX_retireEscape (fun u => post u) (eA, eT, eC, rh, rc, pb, pc, ds, tb, tc, un, oc', sw', iz', lz', nd, sn, tx, tn, rg) (nI sd))) ∧ (¬ sn (nI sd).toNatClampNeg = eA → post (eA, eT, eC, rh, rc, pb, pc, ds, tb, tc, un, oc', sw', iz', lz', nd, sn, tx, tn, rg)))))))) :
    wX_update_102 post (nI sd) (nI q3) (nI p) eA eT eC rh rc pb pc ds tb tc un oc sw iz lz nd sn tx tn rg := by
  refine ⟨pk_in (sd * 72 + p) 144 (by omega) (hx_72 _ _), pk_in (sd * 72 + p) 144 (by omega) (hx_72 _ _), nm_r (e' := upd sw (sd * 72 + p) (nI (w + 1))) (by rw [hx_c72 hsd (by omega), t.2.2.2 p hp, hw, nI_1]) ?_⟩
  refine hx_climb hsd hM hinj hRv hRM hn (by omega) h0 h1 (hu_TX_w t p _) ?_
  intro k' W' oc' sw' iz' lz' a1 a2 a3
  exact K k' W' oc' sw' iz' lz' a1 a2 (hu_fr_t (hu_fr_sw hu_fr_r (by omega) _) a3)
theorem hx_update_old {post : SX → Prop} {s : Nat} (hsd : sd < 2) (hn : n < 2 ^ 20) (I : hu_XT sd A n M R wt k W oc sw iz lz nd sn) (hs : s < A) (hw : wt s ≠ 0)
    (K : ∀ (k' W' : Nat → Nat) (oc' sw' iz' lz' : Nat → Int32), hu_XT sd A (n + 1) (hu_us A (M, R, wt) s).1 (hu_us A (M, R, wt) s).2.1 (hu_us A (M, R, wt) s).2.2 k' W' oc' sw' iz' lz' nd sn → hu_fr sd oc sw iz lz oc' sw' iz' lz' →
      post (nI A, eT, eC, rh, rc, pb, pc, ds, tb, tc, un, oc', sw', iz', lz', nd, sn, tx, tn, rg)) : wpX_update post (nI A, eT, eC, rh, rc, pb, pc, ds, tb, tc, un, oc, sw, iz, lz, nd, sn, tx, tn, rg) (nI sd) (nI s) := by
  obtain ⟨hr, hc, t, hnd, hsn⟩ := I
  have hA := hr.2.1
  have hMA := hu_ro_M hr
  have sy := @hu_ro_sym A M R wt hr
  have rv := @hu_ro_val A M R wt hr
  obtain ⟨jh, jl, q1, q2, q3, q4, q5, q6, q7⟩ := hu_hl hr (s := s) (by omega) hw
  rw [hu_us_old hw, q6, q7] at K
  have ro' := hu_ro_old hr (s := s) (by omega) hw q1 q2 q3
  have csd : (nI sd).toNatClampNeg = sd := nI_clamp (by omega)
  have in2 : vp_in (nI sd) 2 := vp_in_nI hsd (by omega)
  have hsh := hc.1
  have hinj := hr.2.2.1
  have M1 : 1 ≤ M := by
    by_cases c : M = 0
    · subst c
      have e : jh = 0 := by omega
      rcases hr.2.2.2.2.1 with x | x
      · rw [e] at q3; omega
      · have := hr.1; omega
    · omega
  obtain ⟨a, a1, a2, a3⟩ := hu_exLf hsh (2 * M + 1) (Nat.le_refl _) jh (by rw [hsh.2.1]; omega)
  have ejh : a - k a = jh := by omega
  have a0 : a ≠ 0 := by
    intro e
    subst e
    have x1 : k (0 + 1) = 1 := hu_root hsh hc.2.1 M1
    have x2 := hsh.1
    omega
  have ta := (t.2.1 a a1 a2).2
  rw [ejh, q3] at ta
  have Wa : W a = wt s := by
    rw [hc.2.2.2.2.2.1 a a1 a2, ejh, q3]
    unfold hu_lw
    rw [if_neg (by omega)]
  have cz1 : hu_cz (hu_up wt s (wt s + 1)) A = hu_cz wt A := by
    refine hu_cz_same A (fun x _ => ?_)
    unfold hu_up
    by_cases c : x = s
    · rw [if_pos c, c]; omega
    · rw [if_neg c]
  have lwR : ∀ j, hu_lw wt (hu_up (hu_up R jh (R jl)) jl s j) = hu_lw wt (R j) := by
    intro j
    have z : hu_lw wt (R jh) = wt s := by rw [q3]; unfold hu_lw; rw [if_neg (by omega)]
    by_cases c : j = jl
    · rw [c, hu_up_s, ← q3, z, q4]
    · rw [hu_up_n c]
      by_cases d : j = jh
      · rw [d, hu_up_s, z, q4]
      · rw [hu_up_n d]
  have hc1 := hu_CI_R hc lwR
  have czA := hu_cz_le wt A
  have W0 := hc.2.2.2.2.2.2.2.2
  have RMle : hu_up (hu_up R jh (R jl)) jl s M ≤ 100 := by rcases ro'.2.2.2.2.1 with x | x <;> omega
  have Rle : ∀ j, j ≤ M → hu_up (hu_up R jh (R jl)) jl s j ≤ 100 := by
    intro j hj
    by_cases c : j = M
    · rw [c]; exact RMle
    · have := (ro'.2.2.2.1 j (by omega)).1; omega
  have Rlt : ∀ j, j < M → hu_up (hu_up R jh (R jl)) jl s j < 32 := fun j hj => by have := (ro'.2.2.2.1 j hj).1; omega
  have R1jl : hu_up (hu_up R jh (R jl)) jl s jl = s := hu_up_s
  have R1M : R M = 100 → hu_up (hu_up R jh (R jl)) jl s M = 100 := by
    intro e
    have ne : jh ≠ M := by intro z; rw [z] at q3; omega
    rw [hu_up_n (by omega), hu_up_n (by omega), e]
  -- behind leadBlock: the end in both ways
  have main : ∀ (z0 : Int32) (E : (z0 = 0 ∧ ¬ R M = 100) ∨ (¬ z0 = 0 ∧ R M = 100)) (p : Nat) (oc' lz' : Nat → Int32), p < 2 * M + 1 → k (p + 1) = k p → W p = wt s → (∀ i, i < p → k (i + 1) = k i → wt s < W i) →
      hu_TX sd M k (hu_up (hu_up R (a - k a) (R (p - k p))) (p - k p) s) W oc' sw iz lz' → hu_fr sd oc sw iz lz oc' sw iz lz' → wX_update_63 post (nI sd) 0 z0 (nI p) (nI A) eT eC rh rc pb pc ds tb tc un oc' sw iz lz' nd sn tx tn rg := by
    intro z0 E p oc' lz' p1 p2 p3 p4 p5 p6
    have ejl : p - k p = jl := by
      have y1 : hu_lw wt (R (p - k p)) = wt s := by rw [← hc.2.2.2.2.2.1 p p1 p2, p3]
      have y2 := hu_lfM hsh p1 p2
      by_cases c : p - k p = jl
      · exact c
      · exfalso
        by_cases d : p - k p < jl
        · exact q5 _ d y1
        · obtain ⟨i, i1, i2, i3⟩ := hu_exLf hsh (2 * M + 1) (Nat.le_refl _) jl (by rw [hsh.2.1]; omega)
          have ip : i < p := by
            by_cases f : i < p
            · exact f
            · have := (hu_mo hsh (i := p) (j := i) (by omega) (by omega)).2
              omega
          have x1 := p4 i ip i2
          rw [hc.2.2.2.2.2.1 i i1 i2] at x1
          have e : i - k i = jl := by omega
          rw [e, q4] at x1
          omega
    rw [ejh, ejl] at p5
    -- the slide
    have slide : (¬ R M = 100 ∨ p ≠ 2 * M - 1) → wX_update_85 post (nI sd) 0 (nI p) (nI A) eT eC rh rc pb pc ds tb tc un oc' sw iz lz' nd sn tx tn rg := by
      intro hE
      have SL : hu_SL M (hu_up (hu_up R jh (R jl)) jl s) wt W (wt s) jl k p := by
        refine ⟨hsh, hc1.2.1, hc1.2.2.1, hc1.2.2.2.2.1, hc1.2.2.2.2.2.1, p1, p2, ejl, p3, by omega, fun i h1 _ => hc1.2.2.2.1 i h1, p4, fun pl => ?_⟩
        by_cases c : p + 1 < 2 * M
        · exact hu_pos hr hc c
        · have e : p + 1 = 2 * M := by omega
          rcases hE with x | x
          · have y := hc.2.2.2.2.2.1 (2 * M) (by omega) (by rw [hsh.2.1, hu_last hsh hc.2.1])
            have z := sy (Nat.le_refl M) x
            have l0 := hu_last hsh hc.2.1
            have e2 : 2 * M - k (2 * M) = M := by omega
            rw [e2] at y
            unfold hu_lw at y
            rw [if_neg x] at y
            rw [e]; omega
          · omega
      refine br_t rfl (hx_slideLeaf hsd (by omega) ro'.2.2.1 R1jl (by omega) Rle (by omega) SL p5 ?_)
      intro p' k' oc2 iz2 lz2 b1 b2 b3 b4 b5
      have hb1 := b1.2.2.2.2.2.1
      have CIe := hu_SL_end (n := n) b1 b2 R1jl (by omega) ro'.2.2.1 W0
      have Wp' := b1.2.2.2.2.2.2.2.2.1
      refine hx_up102 (q3 := 0) (n := n + 1) hsd (by omega) ro'.2.2.1 Rlt RMle (by omega) hb1 Wp' (fun e => by subst e; exact CIe) (fun q0 => ?_) b4 ?_
      · obtain ⟨y, y1, y2, y3⟩ := hu_exIn CIe.1 (2 * M + 1) (Nat.le_refl _) ((p' - 1) / 2) (by rw [CIe.1.2.1]; omega)
        have u := hu_CI_up CIe q0 y1 (by omega) y2
        exact ⟨y, u.1, y1, by omega, y2, u.2⟩
      · intro k3 W3 oc3 sw3 iz3 lz3 c1 c2 c3
        refine br_t rfl (K k3 W3 oc3 sw3 iz3 lz3 ⟨ro', c1, c2, hnd, ?_⟩ (hu_fr_t p6 (hu_fr_t b5 c3)))
        rw [cz1]; exact hsn
    rcases E with ⟨e0, eE⟩ | ⟨e0, eE⟩
    · exact br_t e0 (slide (Or.inl eE))
    · refine br_f e0 ⟨in2, ?_⟩
      rw [csd, hnd]
      have e2 : nI (2 * M + 1) - 2 = nI (2 * M - 1) := by
        rw [show (2 : Int32) = nI 2 from rfl, pk_sub (by omega)]
        exact congrArg nI (by omega)
      rw [e2]
      by_cases c : p = 2 * M - 1
      · refine br_t (by rw [c]) (br_f (by decide) ?_)
        subst c
        have hE0 := hu_E0 (R1M eE) hc1
        obtain ⟨d1, d2, d3⟩ := hu_BEpre hc1 M1 p3 (by omega) hE0 p4
        have l1 := hu_last2 hsh hc.2.1 M1
        have ejm : jl = M - 1 := by omega
        have SI := hu_BE (n := n) (s := s) hc1 M1 d1 d2 p3 hE0 (by rw [← ejm]; exact R1jl) (by omega) ro'.2.2.1 d3
        refine hx_up102 (q3 := 0) (n := n + 1) (wt := hu_up wt s (wt s + 1)) hsd (by omega) ro'.2.2.1 Rlt RMle (by omega) p1 p3 (fun e => by omega) (fun _ => ?_) p5 ?_
        · have e5 : 2 * M - 2 + 1 = 2 * M - 1 := by omega
          refine ⟨2 * M - 2, by omega, by omega, by rw [e5, l1, d1]; omega, by rw [d1]; omega, ?_⟩
          rw [hu_up_n (p := 2 * M - 1) (i := 2 * M - 2) (by omega), d2]
          exact SI
        · intro k3 W3 oc3 sw3 iz3 lz3 c1 c2 c3
          refine br_t rfl (K k3 W3 oc3 sw3 iz3 lz3 ⟨ro', c1, c2, hnd, ?_⟩ (hu_fr_t p6 c3))
          rw [cz1]; exact hsn
      · exact br_f (fun z => c ((nI_eq (by omega) (by omega)).mp z)) (slide (Or.inr c))
  have lead : ∀ (z0 : Int32) (E : (z0 = 0 ∧ ¬ R M = 100) ∨ (¬ z0 = 0 ∧ R M = 100)), wX_update_38 post (nI sd) (nI s) 0 z0 (nI A) eT eC rh rc pb pc ds tb tc un oc sw iz lz nd sn tx tn rg := by
    intro z0 E
    refine br_t rfl (hx_leadBlock (w := wt s) hsd (by omega) hc (by omega) hinj (fun j hj => by rcases rv hj with x | x <;> omega) t a1 a2 (by rw [ejh]; exact q3) (by omega) Wa (by omega) ?_ (main z0 E))
    intro j hj h1
    rcases rv hj with x | x
    · rw [x] at h1
      unfold hu_lw at h1
      rw [if_pos rfl] at h1
      omega
    · exact x
  refine ⟨pk_in (sd * 32 + s) 64 (by omega) (hx_32 _ _), ?_⟩
  rw [hx_c32 hsd (by omega), ta (by omega)]
  refine br_f (nI_ne0 (by omega) (by omega)) ⟨in2, ?_⟩
  rw [csd, hsn]
  rcases hr.2.2.2.2.1 with x | x
  · exact br_f (nI_ge (by omega) (by omega)) (lead 1 (Or.inr ⟨by decide, x.1⟩))
  · exact br_t (nI_le (by omega) (by omega)) (lead 0 (Or.inl ⟨rfl, by omega⟩))
/-- the tree right behind introduce -/
theorem hu_CI_in (hr : hu_ro A M R wt) (h : hu_CI M R wt k W 0 n) {s : Nat} (hs : s < A) (hw : wt s = 0) :
    hu_CI (M + 1) (hu_up (hu_up R M s) (M + 1) 100) wt (hu_ki M k) (hu_up (hu_up W (2 * M + 1) 0) (2 * M + 2) 0) 0 n := by
  have hE := (hu_ro_fr hr hs hw).1
  have ps := @hu_pos A M n k R wt W hr h
  have E0 := hu_E0 hE h
  have hA := hr.2.1
  obtain ⟨hs, hp, ho, ht, hu, hl, h1, hn1, hn2⟩ := h
  have l0 := hu_last hs hp
  have k0 : ∀ i, i ≤ 2 * M → hu_ki M k i = k i := fun i hi => if_pos hi
  have k1 : ∀ i, 2 * M < i → hu_ki M k i = M + 1 := fun i hi => if_neg (by omega)
  have V0 : ∀ i, i ≤ 2 * M → hu_up (hu_up W (2 * M + 1) 0) (2 * M + 2) 0 i = W i := fun i hi => by rw [hu_up_n (by omega), hu_up_n (by omega)]
  have V1 : hu_up (hu_up W (2 * M + 1) 0) (2 * M + 2) 0 (2 * M + 1) = 0 := by rw [hu_up_n (by omega), hu_up_s]
  have V2 : hu_up (hu_up W (2 * M + 1) 0) (2 * M + 2) 0 (2 * M + 2) = 0 := hu_up_s
  generalize hu_up (hu_up W (2 * M + 1) 0) (2 * M + 2) 0 = V at *
  refine ⟨⟨?_, ?_, ?_⟩, ?_, ?_, ?_, ?_, ?_, by omega, fun z => absurd rfl z, ?_⟩
  · rw [k0 0 (by omega)]; exact hs.1
  · exact k1 _ (by omega)
  · intro i hi
    by_cases c : i < 2 * M
    · rw [k0 i (by omega), k0 (i + 1) (by omega)]
      exact hs.2.2 i (by omega)
    · by_cases d : i = 2 * M
      · rw [d, k0 _ (Nat.le_refl _), k1 _ (by omega), l0]
        right; rfl
      · rw [k1 i (by omega), k1 (i + 1) (by omega)]
        left; rfl
  · intro i hi
    by_cases c : i < 2 * M
    · rw [k0 i (by omega), k0 (i + 1) (by omega)]
      exact hp i (by omega)
    · by_cases d : i = 2 * M
      · rw [d, k0 _ (Nat.le_refl _), l0]
        intro _; omega
      · rw [k1 i (by omega), k1 (i + 1) (by omega)]
        intro; omega
  · intro i hi
    by_cases c : i < 2 * M
    · rw [V0 i (by omega), V0 (i + 1) (by omega)]
      exact ho i c
    · by_cases d : i = 2 * M
      · rw [d, V1]; omega
      · have e : i = 2 * M + 1 := by omega
        rw [e]
        show V (2 * M + 2) ≤ _
        rw [V2]; omega
  · intro i hi
    by_cases c : i + 1 < 2 * M
    · rw [k0 i (by omega), k0 (i + 1) (by omega), k0 (i + 2) (by omega), V0 i (by omega), V0 (i + 1) (by omega)]
      exact ht i (by omega)
    · by_cases d : i + 1 = 2 * M
      · intro _ _
        rw [d, V0 i (by omega), V0 _ (Nat.le_refl _), E0]
        exact ps (by omega)
      · by_cases f : i = 2 * M
        · rw [f, k0 _ (Nat.le_refl _), k1 _ (by omega), l0]
          intro; omega
        · rw [k1 i (by omega), k1 (i + 1) (by omega), k1 (i + 2) (by omega)]
          intro _ z; omega
  · intro i hi
    by_cases c : i < 2 * M
    · rw [k0 i (by omega), k0 (i + 1) (by omega)]
      intro a
      have km := hu_inM hs (i := i) (by omega) a
      rw [V0 i (by omega), V0 (2 * k i + 1) (by omega), V0 (2 * k i + 2) (by omega)]
      exact hu i (by omega) a
    · by_cases d : i = 2 * M
      · rw [d, k0 _ (Nat.le_refl _), l0, V0 _ (Nat.le_refl _), V1, V2, E0, hu_df0]
        intro _; rfl
      · rw [k1 i (by omega), k1 (i + 1) (by omega)]
        intro; omega
  · intro i hi
    by_cases c : i < 2 * M
    · rw [k0 i (by omega), k0 (i + 1) (by omega)]
      intro a
      have ji := hu_lfM hs (i := i) (by omega) a
      have jn : i - k i ≠ M := fun z => by
        have := hu_lfU hs (i := i) (j := 2 * M) (by omega) (by omega) a (by rw [hs.2.1, l0]) (by omega)
        omega
      rw [V0 i (by omega), hu_up_n (by omega), hu_up_n jn]
      exact hl i (by omega) a
    · by_cases d : i = 2 * M
      · rw [d, k0 _ (Nat.le_refl _), k1 _ (by omega), l0]
        intro; omega
      · rw [k1 i (by omega), k1 (i + 1) (by omega)]
        intro _
        by_cases f : i = 2 * M + 1
        · subst f
          have e : 2 * M + 1 - (M + 1) = M := by omega
          rw [V1, e, hu_up_n (by omega), hu_up_s]
          unfold hu_lw
          rw [if_neg (by omega), hw]
        · have e : i = 2 * M + 2 := by omega
          subst e
          have e : 2 * M + 2 - (M + 1) = M + 1 := by omega
          rw [V2, e, hu_up_s]
          rfl
  · rw [V0 0 (by omega)]; exact hn2
theorem hx_update_new {post : SX → Prop} {s : Nat} (hsd : sd < 2) (hn : n < 2 ^ 20) (I : hu_XT sd A n M R wt k W oc sw iz lz nd sn) (hs : s < A) (hw : wt s = 0)
    (K : ∀ (k' W' : Nat → Nat) (oc' sw' iz' lz' nd' sn' : Nat → Int32), hu_XT sd A (n + 1) (hu_us A (M, R, wt) s).1 (hu_us A (M, R, wt) s).2.1 (hu_us A (M, R, wt) s).2.2 k' W' oc' sw' iz' lz' nd' sn' → hu_fr sd oc sw iz lz oc' sw' iz' lz' →
      (∀ i, i ≠ sd → nd' i = nd i ∧ sn' i = sn i) → post (nI A, eT, eC, rh, rc, pb, pc, ds, tb, tc, un, oc', sw', iz', lz', nd', sn', tx, tn, rg)) : wpX_update post (nI A, eT, eC, rh, rc, pb, pc, ds, tb, tc, un, oc, sw, iz, lz, nd, sn, tx, tn, rg) (nI sd) (nI s) := by
  obtain ⟨hr, hc, t, hnd, hsn⟩ := I
  have hA := hr.2.1
  have hMA := hu_ro_M hr
  have ro' := hu_ro_new hr hs hw
  have uns := hu_ro_un hr (s := s) (by omega) hw
  obtain ⟨f1, f2, f3, f4, f5, f6⟩ := hu_ro_fr hr hs hw
  have hc1 := hu_CI_in hr hc hs hw
  have t1 := hu_TX_in t hc.1 hc.2.1 uns f1
  have ps := @hu_pos A M n k R wt W hr hc
  have E0 := hu_E0 f1 hc
  have csn : A - hu_cz wt A = M := by
    rcases hr.2.2.2.2.1 with x | x <;> omega
  rw [csn] at hsn
  rw [hu_us_new hw] at K
  have csd : (nI sd).toNatClampNeg = sd := nI_clamp (by omega)
  have in2 : vp_in (nI sd) 2 := vp_in_nI hsd (by omega)
  have l0 := hu_last hc.1 hc.2.1
  have R1M : hu_up (hu_up R M s) (M + 1) 100 M = s := by rw [hu_up_n (by omega), hu_up_s]
  have R1E : hu_up (hu_up R M s) (M + 1) 100 (M + 1) = 100 := hu_up_s
  have V0 : ∀ i, i ≤ 2 * M → hu_up (hu_up W (2 * M + 1) 0) (2 * M + 2) 0 i = W i := fun i hi => by rw [hu_up_n (by omega), hu_up_n (by omega)]
  have V1 : hu_up (hu_up W (2 * M + 1) 0) (2 * M + 2) 0 (2 * M + 1) = 0 := by rw [hu_up_n (by omega), hu_up_s]
  have V2 : hu_up (hu_up W (2 * M + 1) 0) (2 * M + 2) 0 (2 * M + 2) = 0 := hu_up_s
  have kk : hu_ki M k (2 * M) = M := by rw [show hu_ki M k (2 * M) = k (2 * M) from if_pos (Nat.le_refl _), l0]
  have kk1 : hu_ki M k (2 * M + 1) = M + 1 := if_neg (by omega)
  have e2 : 2 * (M + 1) - 2 = 2 * M := by omega
  have e1 : 2 * (M + 1) - 1 = 2 * M + 1 := by omega
  have SI := hu_BE (n := n) (s := s) (w := 0) hc1 (by omega) (by rw [e2, kk]; rfl) (by rw [e2, V0 _ (Nat.le_refl _), E0]) (by rw [e1, V1]) (by rw [show 2 * (M + 1) = 2 * M + 2 from rfl, V2]) (by rw [show M + 1 - 1 = M from rfl, R1M]) (by omega) f4 (fun i hi => by rw [V0 i (by omega)]; exact ps (by omega))
  rw [e1, e2] at SI
  generalize hV : hu_up (hu_up W (2 * M + 1) 0) (2 * M + 2) 0 = V at *
  generalize hu_up (hu_up R M s) (M + 1) 100 = R1 at *
  refine ⟨pk_in (sd * 32 + s) 64 (by omega) (hx_32 _ _), ?_⟩
  rw [hx_c32 hsd (by omega), t.2.2.1 s (by omega) uns]
  refine br_t rfl ⟨in2, ?_⟩
  rw [csd, hsn]
  refine br_f (nI_ge (by omega) (by omega)) (br_f (by decide) ?_)
  refine hx_introduce hsd (by omega) (by omega) hnd ?_
  refine br_f (by decide) ⟨in2, ?_⟩
  rw [csd, pk_us]
  have e3 : nI (2 * M + 3) - 2 = nI (2 * M + 1) := by
    rw [show (2 : Int32) = nI 2 from rfl, pk_sub (by omega)]
    exact congrArg nI (by omega)
  refine br_t e3.symm (br_f (by decide) ?_)
  refine hx_up102 (q3 := 1) (M := M + 1) (n := n + 1) (wt := hu_up wt s 1) hsd (by omega) f4 (fun j hj => by have := (f5 j (by omega)).1; omega) (by omega) (by omega) (by omega) V1 (fun e => by omega) (fun _ => ?_) t1 ?_
  · refine ⟨2 * M, by omega, by omega, by rw [kk, kk1], by rw [kk]; omega, ?_⟩
    rw [hu_up_n (p := 2 * M + 1) (i := 2 * M) (by omega), V0 _ (Nat.le_refl _), E0]
    exact SI
  · intro k3 W3 oc3 sw3 iz3 lz3 c1 c2 c3
    have fr : hu_fr sd oc sw iz lz oc3 sw3 iz3 lz3 := hu_fr_t (hu_fr_lz (hu_fr_iz (hu_fr_sw (hu_fr_sw (hu_fr_oc (hu_fr_oc (hu_fr_oc hu_fr_r (by omega) _) (by omega) _) (by omega) _) (by omega) _) (by omega) _) (by omega) _) (by omega) _) c3
    refine br_f (by decide) ⟨in2, ?_⟩
    rw [csd, pk_us, hsn, nI_1]
    by_cases c : M + 1 = A
    · have z : hu_cz (hu_up wt s 1) A = 0 := by omega
      refine br_t (by rw [c]) ?_
      rw [if_pos z] at K ro'
      refine hx_retire hsd (by omega) pk_us c1 f4 (fun j hj => by have := (f5 j (by omega)).1; omega) R1E c2 ?_
      intro k' oc' sw' lz' d1 d2 d3
      refine K k' W3 oc' sw' iz3 lz' _ _ ⟨ro', d1, d2, pk_us, ?_⟩ (hu_fr_t fr d3) ?_
      · rw [pk_us]; show nI (M + 1) = nI (A - hu_cz (hu_up wt s 1) A); exact congrArg nI (by omega)
      · intro i hi
        rw [pk_un hi, pk_un hi, pk_un hi]
        exact ⟨rfl, rfl⟩
    · have z : ¬ hu_cz (hu_up wt s 1) A = 0 := by omega
      refine br_f (fun y => c ((nI_eq (by omega) (by omega)).mp y)) ?_
      rw [if_neg z] at K ro'
      refine K k3 W3 oc3 sw3 iz3 lz3 _ _ ⟨ro', c1, c2, pk_us, ?_⟩ fr ?_
      · rw [pk_us]; show nI (M + 1) = nI (A - hu_cz (hu_up wt s 1) A); exact congrArg nI (by omega)
      · intro i hi
        rw [pk_un hi, pk_un hi]
        exact ⟨rfl, rfl⟩
theorem hx_update {post : SX → Prop} {s : Nat} (hsd : sd < 2) (hn : n < 2 ^ 20) (I : hu_XT sd A n M R wt k W oc sw iz lz nd sn) (hs : s < A)
    (K : ∀ (k' W' : Nat → Nat) (oc' sw' iz' lz' nd' sn' : Nat → Int32), hu_XT sd A (n + 1) (hu_us A (M, R, wt) s).1 (hu_us A (M, R, wt) s).2.1 (hu_us A (M, R, wt) s).2.2 k' W' oc' sw' iz' lz' nd' sn' → hu_fr sd oc sw iz lz oc' sw' iz' lz' →
      (∀ i, i ≠ sd → nd' i = nd i ∧ sn' i = sn i) → post (nI A, eT, eC, rh, rc, pb, pc, ds, tb, tc, un, oc', sw', iz', lz', nd', sn', tx, tn, rg)) : wpX_update post (nI A, eT, eC, rh, rc, pb, pc, ds, tb, tc, un, oc, sw, iz, lz, nd, sn, tx, tn, rg) (nI sd) (nI s) := by
  by_cases hw : wt s = 0
  · exact hx_update_new hsd hn I hs hw K
  · exact hx_update_old hsd hn I hs hw (fun k' W' oc' sw' iz' lz' a b => K k' W' oc' sw' iz' lz' nd sn a b (fun _ _ => ⟨rfl, rfl⟩))
end
end
section
/-! the reference: leafWeight, update -/
section
variable {A M n : Nat} {R wt : Nat → Nat}
variable {yA yT yC cl pl cf rl no co : Int32} {ty tl ch pt we ro wh hv pr iw cd : Nat → Int32}
/-- the reference's row and weights -/
def hu_YR (M : Nat) (R wt : Nat → Nat) (ro we : Nat → Int32) : Prop := (∀ j, j ≤ M → ro j = nI (R (M - j))) ∧ (∀ x, x < 32 → we x = nI (wt x))
theorem hy_lw {post : Int32 → Prop} {r : Nat} (hr : r = 100 ∨ r < 32) (hw : ∀ x, x < 32 → we x = nI (wt x)) (h : post (nI (hu_lw wt r))) : wpY_leafWeight post (yA, yT, yC, cl, pl, cf, rl, no, co, ty, tl, ch, pt, we, ro, wh, hv, pr, iw, cd) (nI r) := by
  unfold hu_lw at h
  by_cases c : r = 100
  · subst c
    rw [if_pos rfl] at h
    exact br_t rfl h
  · rw [if_neg c] at h
    refine br_f (fun z => c ((nI_eq (b := 100) (by omega) (by omega)).mp z)) ⟨vp_in_nI (by omega) (by omega), ?_⟩
    rw [nI_clamp (by omega), hw r (by omega)]
    exact h
theorem hu_he_s (M : Nat) (R : Nat → Nat) (s i : Nat) : hu_he M R s (i + 1) = if R (M - i) = s then i else hu_he M R s i := by
  show (if decide (R (M - i) = s) = true then i else hu_lst _ i) = _
  by_cases c : R (M - i) = s
  · rw [if_pos c, if_pos (decide_eq_true c)]
  · rw [if_neg c, if_neg (by rw [decide_eq_true_iff]; exact c)]
    rfl
theorem hu_la_s (M : Nat) (R wt : Nat → Nat) (w i : Nat) : hu_la M R wt w (i + 1) = if hu_lw wt (R (M - i)) = w then i else hu_la M R wt w i := by
  show (if decide (hu_lw wt (R (M - i)) = w) = true then i else hu_lst _ i) = _
  by_cases c : hu_lw wt (R (M - i)) = w
  · rw [if_pos c, if_pos (decide_eq_true c)]
  · rw [if_neg c, if_neg (by rw [decide_eq_true_iff]; exact c)]
    rfl
theorem hy_update_155 {post : SY → Prop} {s w : Nat} (hM : M < 32) (hs : s < 32) (hRv : ∀ j, j ≤ M → R j = 100 ∨ R j < 32) (hwt : ∀ r, hu_lw wt r < 2 ^ 20) (hw : w < 2 ^ 20) (P : hu_YR M R wt ro we)
    (K : post (yA, yT, yC, cl, pl, cf, nI (M + 1), no, co, ty, tl, ch, pt, upd we s (nI (w + 1)), upd (upd ro (hu_he M R s (M + 1)) (ro (hu_la M R wt w (M + 1)))) (hu_la M R wt w (M + 1)) (nI s), wh, hv, pr, iw, cd)) :
    ∀ (d i f : Nat), i + d = M + 1 → d < f → wY_update_155 post (nI s) (nI w) yA yT yC cl pl cf (nI (M + 1)) no co ty tl ch pt we ro wh hv pr iw cd f (nI (hu_he M R s i)) (nI (hu_la M R wt w i)) (nI i) := by
  have le1 := hu_lst_lt (fun i => decide (R (M - i) = s)) M
  have le2 := hu_lst_lt (fun i => decide (hu_lw wt (R (M - i)) = w)) M
  have f1 : hu_lst (fun i => decide (R (M - i) = s)) (M + 1) = hu_he M R s (M + 1) := rfl
  have f2 : hu_lst (fun i => decide (hu_lw wt (R (M - i)) = w)) (M + 1) = hu_la M R wt w (M + 1) := rfl
  rw [f1] at le1
  rw [f2] at le2
  intro d
  induction d with
  | zero =>
    intro i f hid hf
    obtain ⟨f, rfl⟩ : ∃ g, f = g + 1 := ⟨f - 1, by omega⟩
    have e : i = M + 1 := by omega
    subst e
    generalize hu_he M R s (M + 1) = he at *
    generalize hu_la M R wt w (M + 1) = la at *
    have c1 : (nI he).toNatClampNeg = he := nI_clamp (by omega)
    have c2 : (nI la).toNatClampNeg = la := nI_clamp (by omega)
    have c3 : (nI s).toNatClampNeg = s := nI_clamp (by omega)
    refine br_t (nI_le (Nat.le_refl _) (by omega)) ⟨vp_in_nI (by omega) (by omega), vp_in_nI (by omega) (by omega), nm_r (e' := upd ro he (ro la)) (by rw [c1, c2]) ⟨vp_in_nI (by omega) (by omega), nm_r (e' := upd (upd ro he (ro la)) la (nI s)) (by rw [c2]) ⟨vp_in_nI hs (by omega), nm_r (e' := upd we s (nI (w + 1))) (by rw [c3, nI_1]) K⟩⟩⟩
  | succ d ih =>
    intro i f hid hf
    obtain ⟨f, rfl⟩ : ∃ g, f = g + 1 := ⟨f - 1, by omega⟩
    have ci : (nI i).toNatClampNeg = i := nI_clamp (by omega)
    have ri := P.1 i (by omega)
    have vi := hRv (M - i) (by omega)
    have J : wY_update_178 post (wY_update_155 post (nI s) (nI w) yA yT yC cl pl cf (nI (M + 1)) no co ty tl ch pt we ro wh hv pr iw cd f) (nI s) (nI w) (nI (hu_he M R s (i + 1))) (nI (hu_la M R wt w i)) (nI i) yA yT yC cl pl cf (nI (M + 1)) no co ty tl ch pt we ro wh hv pr iw cd := by
      refine ⟨vp_in_nI (by omega) (by omega), ?_⟩
      rw [ci, ri]
      refine hy_lw vi P.2 ?_
      have nx := ih (i + 1) f (by omega) (by omega)
      rw [hu_la_s] at nx
      by_cases c : hu_lw wt (R (M - i)) = w
      · rw [if_pos c] at nx
        exact br_t (by rw [c]) (nm_r (nI_1 i) nx)
      · rw [if_neg c] at nx
        exact br_f (fun z => c ((nI_eq (by have := hwt (R (M - i)); omega) (by omega)).mp z)) (nm_r (nI_1 i) nx)
    refine br_f (nI_ge (by omega) (by omega)) ⟨vp_in_nI (by omega) (by omega), ?_⟩
    rw [ci, ri]
    rw [hu_he_s] at J
    by_cases c : R (M - i) = s
    · rw [if_pos c] at J
      exact br_t (by rw [c]) J
    · rw [if_neg c] at J
      exact br_f (fun z => c ((nI_eq (by omega) (by omega)).mp z)) J
theorem hy_update_99 {post : SY → Prop} {R1 : Nat → Nat} (hM : M < 32)
    (K : ∀ ro' : Nat → Int32, (∀ j, j ≤ M → ro' j = nI (R1 (M - j))) → post (yA, yT, yC, cl, pl, cf, nI (M + 1), no, co, ty, tl, ch, pt, we, ro', wh, hv, pr, iw, cd)) :
    ∀ (d i f : Nat) (ro : Nat → Int32), 1 ≤ i → i + d = M + 2 → d < f → (∀ j, j + 1 < i → ro j = nI (R1 (M - j))) → (∀ j, i ≤ j → j ≤ M + 1 → ro j = nI (R1 (M + 1 - j))) →
    wY_update_99 post yA yT yC cl pl cf (nI (M + 2)) no co f (nI i) ty tl ch pt we ro wh hv pr iw cd := by
  intro d
  induction d with
  | zero =>
    intro i f ro h1 hid hf a b
    obtain ⟨f, rfl⟩ : ∃ g, f = g + 1 := ⟨f - 1, by omega⟩
    exact br_t (nI_le (by omega) (by omega)) (nm_r (e' := nI (M + 1)) (nI_pred (M + 1)) (K ro (fun j hj => a j (by omega))))
  | succ d ih =>
    intro i f ro h1 hid hf a b
    obtain ⟨f, rfl⟩ : ∃ g, f = g + 1 := ⟨f - 1, by omega⟩
    have ci : (nI i).toNatClampNeg = i := nI_clamp (by omega)
    have e1 : nI i - 1 = nI (i - 1) := pk_sub (b := 1) h1
    have c1 : (nI i - 1).toNatClampNeg = i - 1 := by rw [e1, nI_clamp (by omega)]
    refine br_f (nI_ge (by omega) (by omega)) ⟨vp_in_nI (by omega) (by omega), pk_in (i - 1) 34 (by omega) e1, nm_r (e' := upd ro (i - 1) (ro i)) (by rw [ci, c1]) (nm_r (nI_1 i) (ih (i + 1) f _ (by omega) (by omega) (by omega) ?_ ?_))⟩
    · intro j hj
      by_cases c : j = i - 1
      · rw [c, pk_us, b i (Nat.le_refl _) (by omega)]
        exact congrArg (fun z => nI (R1 z)) (by omega)
      · rw [pk_un c]; exact a j (by omega)
    · intro j h2 h3
      rw [pk_un (by omega)]
      exact b j (by omega) h3
theorem hy_update_67 {post : SY → Prop} {R1 wt1 : Nat → Nat} (hA : A ≤ 32) (hM : M < 32) (P : hu_YR (M + 1) R1 wt1 ro we) (hwt : ∀ x, wt1 x < 2 ^ 20)
    (K : ∀ ro' : Nat → Int32, (∀ j, j ≤ (if hu_cz wt1 A = 0 then M else M + 1) → ro' j = nI (R1 ((if hu_cz wt1 A = 0 then M else M + 1) - j))) → post (nI A, yT, yC, cl, pl, cf, nI ((if hu_cz wt1 A = 0 then M else M + 1) + 1), no, co, ty, tl, ch, pt, we, ro', wh, hv, pr, iw, cd)) :
    ∀ (d i f : Nat), i + d = A → d < f → wY_update_67 post (nI A) yT yC cl pl cf (nI (M + 2)) no co ty tl ch pt we ro wh hv pr iw cd f (nI (hu_cz wt1 i)) (nI i) := by
  intro d
  induction d with
  | zero =>
    intro i f hid hf
    obtain ⟨f, rfl⟩ : ∃ g, f = g + 1 := ⟨f - 1, by omega⟩
    have e : i = A := by omega
    subst e
    have le := hu_cz_le wt1 i
    refine br_t (nI_le (Nat.le_refl _) (by omega)) ?_
    by_cases c : hu_cz wt1 i = 0
    · refine br_t (by rw [c]; rfl) ⟨M + 2, ?_⟩
      rw [if_pos c] at K
      exact hy_update_99 hM K (M + 1) 1 (M + 2) ro (Nat.le_refl _) (by omega) (by omega) (fun j hj => by omega) (fun j _ hj => P.1 j hj)
    · refine br_f (nI_ne0 (by omega) (by omega)) ?_
      rw [if_neg c] at K
      exact K ro P.1
  | succ d ih =>
    intro i f hid hf
    obtain ⟨f, rfl⟩ : ∃ g, f = g + 1 := ⟨f - 1, by omega⟩
    have le := hu_cz_le wt1 i
    have nx := ih (i + 1) f (by omega) (by omega)
    have es : hu_cz wt1 (i + 1) = hu_cz wt1 i + (if wt1 i = 0 then 1 else 0) := rfl
    rw [es] at nx
    refine br_f (nI_ge (by omega) (by omega)) ⟨vp_in_nI (by omega) (by omega), ?_⟩
    rw [nI_clamp (by omega), P.2 i (by omega)]
    by_cases c : wt1 i = 0
    · rw [if_pos c] at nx
      exact br_t (by rw [c]; rfl) (nm_r (nI_1 _) (nm_r (nI_1 i) nx))
    · rw [if_neg c] at nx
      exact br_f (nI_ne0 (by omega) (by have := hwt i; omega)) (nm_r (nI_1 i) nx)
theorem hy_update_21 {post : SY → Prop} {s : Nat} {wt1 : Nat → Nat} (hA : A ≤ 32) (hM : M < 32) (hE : R M = 100) (hw : ∀ x, x < 32 → we x = nI (wt1 x)) (hwt : ∀ x, wt1 x < 2 ^ 20)
    (K : ∀ ro' : Nat → Int32, (∀ j, j ≤ (if hu_cz wt1 A = 0 then M else M + 1) → ro' j = nI (hu_up (hu_up R M s) (M + 1) 100 ((if hu_cz wt1 A = 0 then M else M + 1) - j))) → post (nI A, yT, yC, cl, pl, cf, nI ((if hu_cz wt1 A = 0 then M else M + 1) + 1), no, co, ty, tl, ch, pt, we, ro', wh, hv, pr, iw, cd)) :
    ∀ (i f : Nat) (ro : Nat → Int32), i ≤ M → i + 1 < f → (∀ j, j ≤ i + 1 → j ≤ M → ro j = nI (R (M - j))) → (∀ j, i + 1 < j → j ≤ M + 1 → ro j = nI (R (M + 1 - j))) →
    wY_update_21 post (nI s) (nI A) yT yC cl pl cf (nI (M + 1)) no co f (nI (i + 1)) ty tl ch pt we ro wh hv pr iw cd := by
  intro i
  induction i with
  | zero =>
    intro f ro hi hf a b
    obtain ⟨f, rfl⟩ : ∃ g, f = g + 1 := ⟨f - 1, by omega⟩
    refine br_t (nI_le (b := 1) (by omega) (by omega)) (nm_r (e' := upd ro 1 (nI s)) rfl (nm_r (nI_1 (M + 1)) ⟨A + 1, hy_update_67 (wt1 := wt1) hA hM ⟨?_, hw⟩ hwt K A 0 (A + 1) (by omega) (by omega)⟩))
    intro j hj
    by_cases c : j = 1
    · subst c
      rw [pk_us, show M + 1 - 1 = M from rfl, hu_up_n (by omega), hu_up_s]
    · rw [pk_un c]
      by_cases d : j = 0
      · subst d
        rw [a 0 (by omega) (by omega), show M + 1 - 0 = M + 1 from rfl, hu_up_s, show M - 0 = M from rfl, hE]
      · rw [b j (by omega) hj, hu_up_n (by omega), hu_up_n (by omega)]
  | succ i ih =>
    intro f ro hi hf a b
    obtain ⟨f, rfl⟩ : ∃ g, f = g + 1 := ⟨f - 1, by omega⟩
    have e1 : nI (i + 1 + 1) - 1 = nI (i + 1) := nI_pred _
    refine br_f (nI_ge (b := i + 1 + 1) (a := 1) (by omega) (by omega)) ?_
    · refine ⟨pk_in (i + 1) 34 (by omega) e1, vp_in_nI (by omega) (by omega), nm_r (e' := upd ro (i + 1 + 1) (ro (i + 1))) (by rw [e1, nI_clamp (by omega), nI_clamp (by omega)]) (nm_r (pk_m1 (i + 1)) (ih f _ (by omega) (by omega) ?_ ?_))⟩
      · intro j h1 h2
        rw [pk_un (by omega)]
        exact a j (by omega) h2
      · intro j h1 h2
        by_cases c : j = i + 1 + 1
        · rw [c, pk_us, a (i + 1) (by omega) (by omega)]
          exact congrArg (fun z => nI (R z)) (by omega)
        · rw [pk_un c]
          exact b j (by omega) h2
theorem hy_update {post : SY → Prop} {s : Nat} (hr : hu_ro A M R wt) (hs : s < A) (hwt : ∀ x, wt x < 2 ^ 19) (P : hu_YR M R wt ro we)
    (K : ∀ ro' we' : Nat → Int32, hu_YR (hu_us A (M, R, wt) s).1 (hu_us A (M, R, wt) s).2.1 (hu_us A (M, R, wt) s).2.2 ro' we' → post (nI A, yT, yC, cl, pl, cf, nI ((hu_us A (M, R, wt) s).1 + 1), no, co, ty, tl, ch, pt, we', ro', wh, hv, pr, iw, cd)) :
    wpY_update post (nI A, yT, yC, cl, pl, cf, nI (M + 1), no, co, ty, tl, ch, pt, we, ro, wh, hv, pr, iw, cd) (nI s) := by
  have hA := hr.2.1
  have hM := hu_ro_M hr
  have cs : (nI s).toNatClampNeg = s := nI_clamp (by omega)
  have hlw : ∀ r, hu_lw wt r < 2 ^ 20 := by
    intro r
    unfold hu_lw
    have := hwt r
    split <;> omega
  refine ⟨vp_in_nI (by omega) (by omega), ?_⟩
  rw [cs, P.2 s (by omega)]
  by_cases c : wt s = 0
  · have fr := hu_ro_fr hr hs c
    have wt1 : ∀ x, hu_up wt s 1 x < 2 ^ 20 := by
      intro x
      unfold hu_up
      have := hwt x
      split <;> omega
    have we1 : ∀ x, x < 32 → upd we s 1 x = nI (hu_up wt s 1 x) := by
      intro x hx
      by_cases d : x = s
      · rw [d, pk_us, hu_up_s]; rfl
      · rw [pk_un d, hu_up_n d]; exact P.2 x hx
    rw [hu_us_new c] at K
    refine br_t (by rw [c]; rfl) ⟨vp_in_nI (by omega) (by omega), nm_r (e' := upd we s 1) rfl ⟨M + 2, ?_⟩⟩
    refine hy_update_21 (wt1 := hu_up wt s 1) hA hM.2 fr.1 we1 wt1 ?_ M (M + 2) ro (Nat.le_refl _) (by omega) (fun j _ hj => P.1 j hj) (fun j h1 h2 => by omega)
    intro ro' h
    exact K ro' _ ⟨h, we1⟩
  · rw [hu_us_old c] at K
    have hws := hwt s
    refine br_f (nI_ne0 (by omega) (by omega)) ⟨vp_in_nI (by omega) (by omega), nm_r (e' := nI (wt s)) rfl ⟨M + 2, ?_⟩⟩
    refine hy_update_155 hM.2 (by omega) (fun j hj => hu_ro_val hr hj) hlw (by omega) P (K _ _ ⟨?_, ?_⟩) (M + 1) 0 (M + 2) (by omega) (by omega)
    · have le1 := hu_lst_lt (fun i => decide (R (M - i) = s)) M
      have le2 := hu_lst_lt (fun i => decide (hu_lw wt (R (M - i)) = wt s)) M
      have f1 : hu_lst (fun i => decide (R (M - i) = s)) (M + 1) = hu_he M R s (M + 1) := rfl
      have f2 : hu_lst (fun i => decide (hu_lw wt (R (M - i)) = wt s)) (M + 1) = hu_la M R wt (wt s) (M + 1) := rfl
      rw [f1] at le1
      rw [f2] at le2
      generalize hu_he M R s (M + 1) = he at *
      generalize hu_la M R wt (wt s) (M + 1) = la at *
      intro j hj
      have hj' : j ≤ M := hj
      show upd (upd ro he (ro la)) la (nI s) j = nI (hu_up (hu_up R (M - he) (R (M - la))) (M - la) s (M - j))
      by_cases d : j = la
      · rw [d, pk_us, hu_up_s]
      · rw [pk_un d, hu_up_n (by omega)]
        by_cases e : j = he
        · rw [e, pk_us, hu_up_s, P.1 la le2]
        · rw [pk_un e, hu_up_n (by omega)]
          exact P.1 j hj'
    · intro x hx
      show upd we s (nI (wt s + 1)) x = nI (hu_up wt s (wt s + 1) x)
      by_cases d : x = s
      · rw [d, pk_us, hu_up_s]
      · rw [pk_un d, hu_up_n d]; exact P.2 x hx
end
end
section
/-! the reference: numberNodes gives the picture of the same tree -/
section
variable {A M n : Nat} {k R wt W : Nat → Nat}
variable {yA yT yC cl pl cf rl no co : Int32} {ty tl ch pt we ro wh hv pr iw cd : Nat → Int32}
def hu_PN (M d : Nat) (k R W : Nat → Nat) (wh hv pr iw : Nat → Int32) : Prop :=
  (∀ i, d ≤ i → i < 2 * M + 1 → hv (2 * M + 1 - i) = nI (W i) ∧ wh (2 * M + 1 - i) = nI (if k (i + 1) = k i then R (i - k i) else 101))
  ∧ (∀ z, d ≤ z → z < 2 * M + 1 → k (z + 1) = k z + 1 → pr (2 * M - 2 * k z) = nI (2 * M + 1 - z) ∧ pr (2 * M - 1 - 2 * k z) = nI (2 * M + 1 - z))
  ∧ (∀ t, t < M → d ≤ 2 * t + 1 → iw (M - t) = nI (W (2 * t + 1) + W (2 * t + 2)))
def hu_NP (M : Nat) (k R W : Nat → Nat) (wh hv pr : Nat → Int32) : Prop :=
  (∀ i, i < 2 * M + 1 → hv (2 * M + 1 - i) = nI (W i) ∧ wh (2 * M + 1 - i) = nI (if k (i + 1) = k i then R (i - k i) else 101))
  ∧ (∀ z, z < 2 * M + 1 → k (z + 1) = k z + 1 → pr (2 * M - 2 * k z) = nI (2 * M + 1 - z) ∧ pr (2 * M - 1 - 2 * k z) = nI (2 * M + 1 - z))
  ∧ pr (2 * M + 1) = 0
theorem hx_2m (a : Nat) : (2 : Int32) * nI a = nI (2 * a) := pk_mul 2 a
theorem hx_rem2 {a : Nat} (h : a < 1000) : nI a - nI a / 2 * 2 = nI (a % 2) := pk_rem (d := 2) (by omega) (by omega) (by omega)
theorem hy_168 {post : SY → Prop} {J : Int32 → Int32 → Int32 → Int32 → (Nat → Int32) → (Nat → Int32) → (Nat → Int32) → (Nat → Int32) → (Nat → Int32) → (Nat → Int32) → (Nat → Int32) → (Nat → Int32) → (Nat → Int32) → (Nat → Int32) → (Nat → Int32) → Prop}
    {i : Nat} {x1 x3 : Int32} (hM : M < 32) (hi : i < 2 * M + 1)
    (h1 : ∀ j, i ≤ j → j < 2 * M + 1 → hv (2 * M + 1 - j) = nI (W j) ∧ wh (2 * M + 1 - j) = nI (if k (j + 1) = k j then R (j - k j) else 101))
    (h2 : ∀ z, i ≤ z → z < 2 * M + 1 → k (z + 1) = k z + 1 → pr (2 * M - 2 * k z) = nI (2 * M + 1 - z) ∧ pr (2 * M - 1 - 2 * k z) = nI (2 * M + 1 - z))
    (h3 : ∀ t, t < M → i + 1 ≤ 2 * t + 1 → iw (M - t) = nI (W (2 * t + 1) + W (2 * t + 2)))
    (K : ∀ iw' : Nat → Int32, hu_PN M i k R W wh hv pr iw' → J x1 (nI ((2 * M + 1 - i) / 2)) x3 (nI (2 * M + 2 - i)) ty tl ch pt we ro wh hv pr iw' cd) :
    wY_numberNodes_168 post J x1 (nI ((2 * M - i) / 2)) x3 (nI (2 * M + 1 - i)) yA yT yC cl pl cf rl no co ty tl ch pt we ro wh hv pr iw cd := by
  have e4 : nI (2 * M + 1 - i) + 1 = nI (2 * M + 2 - i) := by rw [nI_1]; exact congrArg nI (by omega)
  refine ⟨by decide, ?_⟩
  rw [hx_rem2 (by omega)]
  by_cases c : i % 2 = 1
  · obtain ⟨t, rfl⟩ : ∃ t, i = 2 * t + 1 := ⟨i / 2, by omega⟩
    have e0 : (2 * M + 1 - (2 * t + 1)) % 2 = 0 := by omega
    have e1 : nI ((2 * M - (2 * t + 1)) / 2) + 1 = nI (M - t) := by rw [nI_1]; exact congrArg nI (by omega)
    have e2 : nI (2 * M + 1 - (2 * t + 1)) - 1 = nI (2 * M + 1 - (2 * t + 2)) := by
      rw [show (1 : Int32) = nI 1 from rfl, pk_sub (by omega)]
      exact congrArg nI (by omega)
    rw [e0]
    refine br_t rfl (nm_r e1 ⟨pk_in _ 68 (by omega) e2, vp_in_nI (by omega) (by omega), vp_in_nI (by omega) (by omega), nm_r (e' := upd iw (M - t) (nI (W (2 * t + 1) + W (2 * t + 2)))) ?_ (nm_r e4 ?_)⟩)
    · rw [nI_clamp (by omega), e2, nI_clamp (by omega), nI_clamp (by omega), (h1 (2 * t + 2) (by omega) (by omega)).1, (h1 (2 * t + 1) (by omega) (by omega)).1, nI_add, Nat.add_comm (W (2 * t + 2))]
    · have e5 : (2 * M + 1 - (2 * t + 1)) / 2 = M - t := by omega
      rw [e5] at K
      refine K _ ⟨h1, h2, fun s hs h4 => ?_⟩
      by_cases d : s = t
      · rw [d, pk_us]
      · rw [pk_un (by omega)]
        exact h3 s hs (by omega)
  · have e0 : (2 * M + 1 - i) % 2 = 1 := by omega
    rw [e0]
    have e5 : (2 * M + 1 - i) / 2 = (2 * M - i) / 2 := by omega
    rw [e5] at K
    exact br_f (by decide) (nm_r e4 (K iw ⟨h1, h2, fun s hs h4 => h3 s hs (by omega)⟩))
theorem hy_80_in {post : SY → Prop} {J : Int32 → Int32 → Int32 → Int32 → (Nat → Int32) → (Nat → Int32) → (Nat → Int32) → (Nat → Int32) → (Nat → Int32) → (Nat → Int32) → (Nat → Int32) → (Nat → Int32) → (Nat → Int32) → (Nat → Int32) → (Nat → Int32) → Prop}
    {i : Nat} {x1 : Int32} (hM : M < 32) (hc : hu_CI M R wt k W 0 n) (hi : i < 2 * M + 1) (hin : k (i + 1) = k i + 1) (P : hu_PN M (i + 1) k R W wh hv pr iw)
    (K : ∀ wh' hv' pr' iw' : Nat → Int32, hu_PN M i k R W wh' hv' pr' iw' → J x1 (nI ((2 * M + 1 - i) / 2)) (nI (M - k i)) (nI (2 * M + 2 - i)) ty tl ch pt we ro wh' hv' pr' iw' cd) :
    wY_numberNodes_80 post J x1 (nI ((2 * M - i) / 2)) (nI (M - k (i + 1))) (nI (2 * M + 1 - i)) 0 yA yT yC cl pl cf rl no co ty tl ch pt we ro wh hv pr iw cd := by
  have hs := hc.1
  have kM := hu_inM hs hi hin
  have p := hc.2.1 i hi hin
  have su := hc.2.2.2.2.1 i hi hin
  rw [hu_df0] at su
  have e1 : nI (M - k (i + 1)) + 1 = nI (M - k i) := by rw [nI_1]; exact congrArg nI (by omega)
  have e2 : (2 : Int32) * nI (M - k i) = nI (2 * M - 2 * k i) := by rw [hx_2m]; exact congrArg nI (by omega)
  have e3 : (2 : Int32) * nI (M - k i) - 1 = nI (2 * M - 1 - 2 * k i) := by
    rw [e2, show (1 : Int32) = nI 1 from rfl, pk_sub (by omega)]
    exact congrArg nI (by omega)
  have ci : (nI (2 * M + 1 - i)).toNatClampNeg = 2 * M + 1 - i := nI_clamp (by omega)
  have iwi : iw (M - k i) = nI (W i) := by rw [P.2.2 (k i) kM (by omega)]; exact congrArg nI (by omega)
  refine br_t rfl (nm_r e1 ⟨vp_in_nI (by omega) (by omega), nm_r (e' := upd wh (2 * M + 1 - i) (nI 101)) (by rw [ci]; rfl) ⟨vp_in_nI (by omega) (by omega), vp_in_nI (by omega) (by omega), nm_r (e' := upd hv (2 * M + 1 - i) (nI (W i))) (by rw [ci, nI_clamp (by omega), iwi]) ⟨pk_in _ 68 (by omega) e3, nm_r (e' := upd pr (2 * M - 1 - 2 * k i) (nI (2 * M + 1 - i))) (by rw [e3, nI_clamp (by omega)]) ⟨pk_in _ 68 (by omega) e2, nm_r (e' := upd (upd pr (2 * M - 1 - 2 * k i) (nI (2 * M + 1 - i))) (2 * M - 2 * k i) (nI (2 * M + 1 - i))) (by rw [e2, nI_clamp (by omega)]) ?_⟩⟩⟩⟩)
  refine hy_168 (k := k) (R := R) (W := W) hM hi ?_ ?_ P.2.2 (fun iw' h => K _ _ _ iw' h)
  · intro j h1 h2
    by_cases c : j = i
    · subst c
      rw [pk_us, pk_us, if_neg (by omega)]
      exact ⟨rfl, rfl⟩
    · rw [pk_un (by omega), pk_un (by omega)]
      exact P.1 j (by omega) h2
  · intro z h1 h2 h3
    by_cases c : z = i
    · subst c
      rw [pk_us, pk_un (by omega), pk_us]
      exact ⟨rfl, rfl⟩
    · have ne : k z ≠ k i := fun e => c (hu_inU hs h2 hi h3 hin e)
      have kz := hu_inM hs h2 h3
      rw [pk_un (by omega), pk_un (by omega), pk_un (by omega), pk_un (by omega)]
      exact P.2.1 z (by omega) h2 h3
theorem hy_80_lf {post : SY → Prop} {J : Int32 → Int32 → Int32 → Int32 → (Nat → Int32) → (Nat → Int32) → (Nat → Int32) → (Nat → Int32) → (Nat → Int32) → (Nat → Int32) → (Nat → Int32) → (Nat → Int32) → (Nat → Int32) → (Nat → Int32) → (Nat → Int32) → Prop}
    {i : Nat} {x3 : Int32} (hr : hu_ro A M R wt) (hc : hu_CI M R wt k W 0 n) (Y : hu_YR M R wt ro we) (hi : i < 2 * M + 1) (hlf : k (i + 1) = k i) (P : hu_PN M (i + 1) k R W wh hv pr iw)
    (K : ∀ wh' hv' iw' : Nat → Int32, hu_PN M i k R W wh' hv' pr iw' → J (nI (M + 1 + k i - i)) (nI ((2 * M + 1 - i) / 2)) x3 (nI (2 * M + 2 - i)) ty tl ch pt we ro wh' hv' pr iw' cd) :
    wY_numberNodes_80 post J (nI (M + k i - i)) (nI ((2 * M - i) / 2)) x3 (nI (2 * M + 1 - i)) 1 yA yT yC cl pl cf rl no co ty tl ch pt we ro wh hv pr iw cd := by
  have hs := hc.1
  have hM := hu_ro_M hr
  have jM := hu_lfM hs hi hlf
  have kid := hu_kid hs (i := i) (by omega)
  have ci : (nI (2 * M + 1 - i)).toNatClampNeg = 2 * M + 1 - i := nI_clamp (by omega)
  have cx : (nI (M + k i - i)).toNatClampNeg = M + k i - i := nI_clamp (by omega)
  have ri : ro (M + k i - i) = nI (R (i - k i)) := by
    rw [Y.1 _ (by omega)]
    exact congrArg (fun z => nI (R z)) (by omega)
  have wi := hc.2.2.2.2.2.1 i hi hlf
  have ex : nI (M + k i - i) + 1 = nI (M + 1 + k i - i) := by rw [nI_1]; exact congrArg nI (by omega)
  refine br_f (by decide) ⟨vp_in_nI (by omega) (by omega), vp_in_nI (by omega) (by omega), nm_r (e' := upd wh (2 * M + 1 - i) (nI (R (i - k i)))) (by rw [ci, cx, ri]) ⟨vp_in_nI (by omega) (by omega), ?_⟩⟩
  rw [cx, ri]
  refine hy_lw (hu_ro_val hr jM) Y.2 ?_
  refine ⟨vp_in_nI (by omega) (by omega), nm_r (e' := upd hv (2 * M + 1 - i) (nI (W i))) (by rw [ci, wi]) (nm_r ex ?_)⟩
  refine hy_168 (k := k) (R := R) (W := W) hM.2 hi ?_ (fun z h1 h2 h3 => ?_) P.2.2 (fun iw' h => K _ _ iw' h)
  · intro j h1 h2
    by_cases c : j = i
    · subst c
      rw [pk_us, pk_us, if_pos hlf]
      exact ⟨rfl, rfl⟩
    · rw [pk_un (by omega), pk_un (by omega)]
      exact P.1 j (by omega) h2
  · have ne : z ≠ i := by intro e; subst e; omega
    exact P.2.1 z (by omega) h2 h3
theorem hy_nn_21 {post : SY → Prop} (hr : hu_ro A M R wt) (hc : hu_CI M R wt k W 0 n) (hn : n < 2 ^ 20) (Y : hu_YR M R wt ro we)
    (K : ∀ wh' hv' pr' iw' : Nat → Int32, hu_NP M k R W wh' hv' pr' → post (yA, yT, yC, cl, pl, cf, nI (M + 1), nI (2 * M + 1), co, ty, tl, ch, pt, we, ro, wh', hv', pr', iw', cd)) :
    ∀ (d f : Nat) (wh hv pr iw : Nat → Int32), d ≤ 2 * M + 1 → d < f → hu_PN M d k R W wh hv pr iw →
    wY_numberNodes_21 post yA yT yC cl pl cf (nI (M + 1)) (nI (2 * M + 1)) co f (nI (M + 1 + k d - d)) (nI ((2 * M + 1 - d) / 2)) (nI (M - k d)) (nI (2 * M + 2 - d)) ty tl ch pt we ro wh hv pr iw cd := by
  have hs := hc.1
  have ho := hc.2.2.1
  have hM := hu_ro_M hr
  have W0 := hc.2.2.2.2.2.2.2.2
  intro d
  induction d with
  | zero =>
    intro f wh hv pr iw hd hf P
    obtain ⟨f, rfl⟩ : ∃ g, f = g + 1 := ⟨f - 1, by omega⟩
    refine br_t (nI_lt (by omega) (by omega)) ⟨vp_in_nI (by omega) (by omega), nm_r (e' := upd pr (2 * M + 1) 0) (by rw [nI_clamp (by omega)]) (K _ _ _ _ ⟨fun i hi => P.1 i (by omega) hi, fun z hz hin => ?_, pk_us⟩)⟩
    have kz := hu_inM hs hz hin
    rw [pk_un (by omega), pk_un (by omega)]
    exact P.2.1 z (by omega) hz hin
  | succ i ih =>
    intro f wh hv pr iw hd hf P
    obtain ⟨f, rfl⟩ : ∃ g, f = g + 1 := ⟨f - 1, by omega⟩
    have e2 : 2 * M + 1 - (i + 1) = 2 * M - i := by omega
    have e4 : 2 * M + 2 - (i + 1) = 2 * M + 1 - i := by omega
    have kid := hu_kid hs (i := i) (by omega)
    rw [e2, e4]
    refine br_f (nI_nlt (by omega) (by omega)) ?_
    have Wi : W i < 2 ^ 20 := Nat.lt_of_le_of_lt (hu_sof ho (Nat.zero_le i) (by omega)) (by omega)
    rcases hs.2.2 i (by omega) with lf | inn
    · -- a leaf
      have jM := hu_lfM hs (i := i) (by omega) lf
      have ex : M + 1 + k (i + 1) - (i + 1) = M + k i - i := by omega
      rw [ex]
      have fin : wY_numberNodes_80 post (wY_numberNodes_21 post yA yT yC cl pl cf (nI (M + 1)) (nI (2 * M + 1)) co f) (nI (M + k i - i)) (nI ((2 * M - i) / 2)) (nI (M - k (i + 1))) (nI (2 * M + 1 - i)) 1 yA yT yC cl pl cf (nI (M + 1)) (nI (2 * M + 1)) co ty tl ch pt we ro wh hv pr iw cd := by
        refine hy_80_lf hr hc Y (by omega) lf P ?_
        intro wh' hv' iw' P'
        rw [lf]
        exact ih f wh' hv' pr iw' (by omega) (by omega) P'
      refine br_f (nI_ge (by omega) (by omega)) ?_
      by_cases c : M - k (i + 1) < (2 * M - i) / 2
      · refine br_t (nI_lt c (by omega)) ⟨vp_in_nI (by omega) (by omega), ?_⟩
        have ri : ro (M + k i - i) = nI (R (i - k i)) := by
          rw [Y.1 _ (by omega)]
          exact congrArg (fun z => nI (R z)) (by omega)
        rw [nI_clamp (by omega), ri]
        refine hy_lw (hu_ro_val hr jM) Y.2 ?_
        have ei : nI (M - k (i + 1)) + 1 = nI (M - (k i - 1)) := by rw [nI_1]; exact congrArg nI (by omega)
        refine ⟨pk_in _ 68 (by omega) ei, ?_⟩
        rw [ei, nI_clamp (by omega), P.2.2 (k i - 1) (by omega) (by omega)]
        obtain ⟨z, z1, z2, z3⟩ := hu_exIn hs (2 * M + 1) (Nat.le_refl _) (k i - 1) (by rw [hs.2.1]; omega)
        have su := hc.2.2.2.2.1 z z1 (by omega)
        rw [hu_df0, z2] at su
        have zi : z ≤ i := by
          by_cases d : z ≤ i
          · exact d
          · have := (hu_mo hs (i := i) (j := z) (by omega) (by omega)).1
            omega
        have o := hu_sof ho zi (by omega)
        have wi := hc.2.2.2.2.2.1 i (by omega) lf
        have oz := hu_sof ho (Nat.zero_le z) (by omega)
        exact br_f (nI_nlt (by omega) (by omega)) fin
      · exact br_f (nI_nlt (by omega) (by omega)) fin
    · -- an inner node
      have kM := hu_inM hs (i := i) (by omega) inn
      have p := hc.2.1 i (by omega) inn
      have ex : M + 1 + k (i + 1) - (i + 1) = M + 1 + k i - i := by omega
      rw [ex]
      have fin : wY_numberNodes_80 post (wY_numberNodes_21 post yA yT yC cl pl cf (nI (M + 1)) (nI (2 * M + 1)) co f) (nI (M + 1 + k i - i)) (nI ((2 * M - i) / 2)) (nI (M - k (i + 1))) (nI (2 * M + 1 - i)) 0 yA yT yC cl pl cf (nI (M + 1)) (nI (2 * M + 1)) co ty tl ch pt we ro wh hv pr iw cd := by
        refine hy_80_in hM.2 hc (by omega) inn P ?_
        intro wh' hv' pr' iw' P'
        exact ih f wh' hv' pr' iw' (by omega) (by omega) P'
      by_cases c : i = k i
      · exact br_t (nI_le (by omega) (by omega)) fin
      · refine br_f (nI_ge (by omega) (by omega)) (br_t (nI_lt (by omega) (by omega)) ⟨vp_in_nI (by omega) (by omega), ?_⟩)
        obtain ⟨y, y1, y2, y3⟩ := hu_exLf hs i (by omega) (i - k i - 1) (by omega)
        have ri : ro (M + 1 + k i - i) = nI (R (y - k y)) := by
          rw [Y.1 _ (by omega)]
          exact congrArg (fun z => nI (R z)) (by omega)
        rw [nI_clamp (by omega), ri]
        refine hy_lw (hu_ro_val hr (hu_lfM hs (by omega) y2)) Y.2 ?_
        have wy := hc.2.2.2.2.2.1 y (by omega) y2
        rw [← wy]
        have ei : nI (M - k (i + 1)) + 1 = nI (M - k i) := by rw [nI_1]; exact congrArg nI (by omega)
        refine ⟨pk_in _ 68 (by omega) ei, ?_⟩
        rw [ei, nI_clamp (by omega), P.2.2 (k i) kM (by omega)]
        have su := hc.2.2.2.2.1 i (by omega) inn
        rw [hu_df0] at su
        have tt := hu_tif hs ho hc.2.2.2.1 y1 (by omega) y2 inn
        have oy := hu_sof ho (Nat.zero_le y) (by omega)
        exact br_t (nI_lt (by omega) (by omega)) fin
theorem hy_number {post : SY → Prop} (hr : hu_ro A M R wt) (hc : hu_CI M R wt k W 0 n) (hn : n < 2 ^ 20) (Y : hu_YR M R wt ro we)
    (K : ∀ wh' hv' pr' iw' : Nat → Int32, hu_NP M k R W wh' hv' pr' → post (yA, yT, yC, cl, pl, cf, nI (M + 1), nI (2 * M + 1), co, ty, tl, ch, pt, we, ro, wh', hv', pr', iw', cd)) :
    wpY_numberNodes post (yA, yT, yC, cl, pl, cf, nI (M + 1), no, co, ty, tl, ch, pt, we, ro, wh, hv, pr, iw, cd) := by
  have hs := hc.1
  have e : (2 : Int32) * nI (M + 1) - 1 = nI (2 * M + 1) := by
    rw [hx_2m, show (1 : Int32) = nI 1 from rfl, pk_sub (by omega)]
    exact congrArg nI (by omega)
  refine nm_r e ⟨2 * M + 2, ?_⟩
  have x := hy_nn_21 hr hc hn Y K (2 * M + 1) (2 * M + 2) wh hv pr iw (Nat.le_refl _) (by omega) ⟨fun i h1 h2 => by omega, fun z h1 h2 => by omega, fun t h1 h2 => by omega⟩
  have e1 : M + 1 + k (2 * M + 1) - (2 * M + 1) = 0 := by rw [hs.2.1]; omega
  have e2 : (2 * M + 1 - (2 * M + 1)) / 2 = 0 := by omega
  have e3 : M - k (2 * M + 1) = 0 := by rw [hs.2.1]; omega
  have e4 : 2 * M + 2 - (2 * M + 1) = 1 := by omega
  rw [e1, e2, e3, e4] at x
  exact x
end
end
section
/-! paths and codes as numbers; tails -/
section
variable {A M n : Nat} {k R wt W : Nat → Nat}
def hu_sl (k : Nat → Nat) (N t : Nat) : Nat := hu_lst (fun i => decide (k i = t)) N
theorem hu_sl_spec (h : hu_sh M k) {t : Nat} (ht : t < M) : hu_sl k (2 * M + 1) t < 2 * M + 1 ∧ k (hu_sl k (2 * M + 1) t) = t ∧ k (hu_sl k (2 * M + 1) t + 1) = t + 1 := by
  obtain ⟨i, i1, i2, i3⟩ := hu_exIn h (2 * M + 1) (Nat.le_refl _) t (by rw [h.2.1]; exact ht)
  have x := hu_lst_spec (p := fun i => decide (k i = t)) (2 * M + 1) ⟨i, i1, decide_eq_true i2⟩
  have e : hu_lst (fun i => decide (k i = t)) (2 * M + 1) = hu_sl k (2 * M + 1) t := rfl
  rw [e] at x
  generalize hu_sl k (2 * M + 1) t = z at *
  obtain ⟨x1, x2, x3⟩ := x
  rw [decide_eq_true_iff] at x2
  refine ⟨x1, x2, ?_⟩
  have s := h.2.2 z x1
  by_cases c : z + 1 = 2 * M + 1
  · rw [c, h.2.1] at s ⊢; omega
  · have y := x3 (z + 1) (by omega) (by omega)
    rw [decide_eq_false_iff_not] at y
    omega
def hu_pa (k : Nat → Nat) (M q : Nat) : Nat := hu_sl k (2 * M + 1) ((q - 1) / 2)
theorem hu_pa_spec (h : hu_sh M k) (hp : hu_ps M k) {q : Nat} (q0 : q ≠ 0) (hq : q < 2 * M + 1) : hu_pa k M q < q ∧ hu_pa k M q < 2 * M + 1 ∧ k (hu_pa k M q) = (q - 1) / 2 ∧ k (hu_pa k M q + 1) = k (hu_pa k M q) + 1 ∧ hu_pa k M q ≤ 2 * ((q - 1) / 2) := by
  have s := hu_sl_spec h (t := (q - 1) / 2) (by omega)
  have e : hu_sl k (2 * M + 1) ((q - 1) / 2) = hu_pa k M q := rfl
  rw [e] at s
  have p := hp _ s.1 (by omega)
  omega
theorem hu_pa_eq (h : hu_sh M k) {q z : Nat} (q0 : q ≠ 0) (hq : q < 2 * M + 1) (hz : z < 2 * M + 1) (hin : k (z + 1) = k z + 1) (e : k z = (q - 1) / 2) : z = hu_pa k M q := by
  have s := hu_sl_spec h (t := (q - 1) / 2) (by omega)
  have e2 : hu_sl k (2 * M + 1) ((q - 1) / 2) = hu_pa k M q := rfl
  rw [e2] at s
  exact hu_inU h hz s.1 hin (by omega) (by omega)
def hu_dlF (k : Nat → Nat) (M : Nat) : Nat → Nat → Nat
  | 0, _ => 0
  | f + 1, q => if q = 0 then 0 else hu_dlF k M f (hu_pa k M q) + 1
def hu_dvF (k : Nat → Nat) (M : Nat) : Nat → Nat → Nat
  | 0, _ => 0
  | f + 1, q => if q = 0 then 0 else 2 * hu_dvF k M f (hu_pa k M q) + q % 2
def hu_dl (k : Nat → Nat) (M q : Nat) : Nat := hu_dlF k M q q
def hu_dv (k : Nat → Nat) (M q : Nat) : Nat := hu_dvF k M q q
theorem hu_dF (h : hu_sh M k) (hp : hu_ps M k) : ∀ b q, q ≤ b → q < 2 * M + 1 → ∀ f g, q ≤ f → q ≤ g → hu_dlF k M f q = hu_dlF k M g q ∧ hu_dvF k M f q = hu_dvF k M g q := by
  intro b
  induction b with
  | zero =>
    intro q hb _ f g _ _
    have e : q = 0 := by omega
    subst e
    have l : ∀ f, hu_dlF k M f 0 = 0 ∧ hu_dvF k M f 0 = 0 := by
      intro f
      cases f with
      | zero => exact ⟨rfl, rfl⟩
      | succ f => exact ⟨if_pos rfl, if_pos rfl⟩
    rw [(l f).1, (l g).1, (l f).2, (l g).2]
    exact ⟨rfl, rfl⟩
  | succ b ih =>
    intro q hb hq f g hf hg
    by_cases c : q = 0
    · exact ih q (by omega) hq f g hf hg
    · obtain ⟨f, rfl⟩ : ∃ x, f = x + 1 := ⟨f - 1, by omega⟩
      obtain ⟨g, rfl⟩ : ∃ x, g = x + 1 := ⟨g - 1, by omega⟩
      have s := hu_pa_spec h hp c hq
      have x := ih (hu_pa k M q) (by omega) (by omega) f g (by omega) (by omega)
      show (if q = 0 then 0 else _) = (if q = 0 then 0 else _) ∧ (if q = 0 then 0 else _) = (if q = 0 then 0 else _)
      rw [if_neg c, if_neg c, if_neg c, if_neg c, x.1, x.2]
      exact ⟨rfl, rfl⟩
theorem hu_dl_0 : hu_dl k M 0 = 0 := rfl
theorem hu_dv_0 : hu_dv k M 0 = 0 := rfl
theorem hu_d_s (h : hu_sh M k) (hp : hu_ps M k) {q : Nat} (q0 : q ≠ 0) (hq : q < 2 * M + 1) : hu_dl k M q = hu_dl k M (hu_pa k M q) + 1 ∧ hu_dv k M q = 2 * hu_dv k M (hu_pa k M q) + q % 2 := by
  have s := hu_pa_spec h hp q0 hq
  obtain ⟨p, rfl⟩ : ∃ x, q = x + 1 := ⟨q - 1, by omega⟩
  have x := hu_dF h hp (hu_pa k M (p + 1)) (hu_pa k M (p + 1)) (Nat.le_refl _) (by omega) p (hu_pa k M (p + 1)) (by omega) (Nat.le_refl _)
  constructor
  · show (if p + 1 = 0 then 0 else hu_dlF k M p (hu_pa k M (p + 1)) + 1) = _
    rw [if_neg q0, x.1]
    rfl
  · show (if p + 1 = 0 then 0 else 2 * hu_dvF k M p (hu_pa k M (p + 1)) + (p + 1) % 2) = _
    rw [if_neg q0, x.2]
    rfl
theorem hu_dl_le (h : hu_sh M k) (hp : hu_ps M k) : ∀ b q, q ≤ b → q ≠ 0 → q < 2 * M + 1 → hu_dl k M q ≤ (q - 1) / 2 + 1 := by
  intro b
  induction b with
  | zero => intro q a b; omega
  | succ b ih =>
    intro q hb q0 hq
    have s := hu_pa_spec h hp q0 hq
    have d := (hu_d_s h hp q0 hq).1
    by_cases c : hu_pa k M q = 0
    · rw [c, hu_dl_0] at d; omega
    · have x := ih (hu_pa k M q) (by omega) c (by omega)
      omega
theorem hu_dl_M (h : hu_sh M k) (hp : hu_ps M k) {q : Nat} (hq : q < 2 * M + 1) : hu_dl k M q ≤ M := by
  by_cases c : q = 0
  · rw [c, hu_dl_0]; omega
  · have := hu_dl_le h hp q q (Nat.le_refl _) c hq
    omega
theorem hu_dl_p (h : hu_sh M k) (hp : hu_ps M k) {q : Nat} (q0 : q ≠ 0) (hq : q < 2 * M + 1) : 1 ≤ hu_dl k M q := by
  have := (hu_d_s h hp q0 hq).1
  omega
theorem hu_dv_lt (h : hu_sh M k) (hp : hu_ps M k) : ∀ b q, q ≤ b → q < 2 * M + 1 → hu_dv k M q < 2 ^ hu_dl k M q := by
  intro b
  induction b with
  | zero =>
    intro q a _
    have e : q = 0 := by omega
    subst e
    rw [hu_dl_0, hu_dv_0]
    decide
  | succ b ih =>
    intro q hb hq
    by_cases c : q = 0
    · exact ih q (by omega) hq
    · have s := hu_pa_spec h hp c hq
      have d := hu_d_s h hp c hq
      have x := ih (hu_pa k M q) (by omega) (by omega)
      rw [d.1, d.2, Nat.pow_succ]
      omega
theorem hu_d_inj (h : hu_sh M k) (hp : hu_ps M k) : ∀ x a b, a ≤ x → a < 2 * M + 1 → b < 2 * M + 1 → hu_dl k M a = hu_dl k M b → hu_dv k M a = hu_dv k M b → a = b := by
  intro x
  have z0 : ∀ b, b < 2 * M + 1 → hu_dl k M 0 = hu_dl k M b → 0 = b := by
    intro b hb e
    by_cases c : b = 0
    · exact c.symm
    · have := hu_dl_p h hp c hb
      rw [hu_dl_0] at e
      omega
  induction x with
  | zero =>
    intro a b ha ha2 hb e1 e2
    have e : a = 0 := by omega
    subst e
    exact z0 b hb e1
  | succ x ih =>
    intro a b ha ha2 hb e1 e2
    by_cases c : a = 0
    · subst c; exact z0 b hb e1
    · by_cases d : b = 0
      · subst d; exact (z0 a ha2 e1.symm).symm
      · have sa := hu_pa_spec h hp c ha2
        have sb := hu_pa_spec h hp d hb
        have da := hu_d_s h hp c ha2
        have db := hu_d_s h hp d hb
        have y := ih (hu_pa k M a) (hu_pa k M b) (by omega) (by omega) (by omega) (by omega) (by omega)
        rw [y] at sa
        omega
/-- what lies strictly above another slot on its path is inner -/
theorem hu_d_pre (h : hu_sh M k) (hp : hu_ps M k) {a : Nat} (ha : a < 2 * M + 1) : ∀ j b, b < 2 * M + 1 → hu_dl k M b = (j + 1) + hu_dl k M a → hu_dv k M b / 2 ^ (j + 1) = hu_dv k M a → k (a + 1) = k a + 1 := by
  intro j
  induction j with
  | zero =>
    intro b hb e1 e2
    have b0 : b ≠ 0 := by intro z; rw [z, hu_dl_0] at e1; omega
    have s := hu_pa_spec h hp b0 hb
    have d := hu_d_s h hp b0 hb
    have e3 : hu_dv k M b / 2 = hu_dv k M a := e2
    have y := hu_d_inj h hp (hu_pa k M b) (hu_pa k M b) a (Nat.le_refl _) (by omega) ha (by omega) (by omega)
    rw [y] at s
    omega
  | succ j ih =>
    intro b hb e1 e2
    have b0 : b ≠ 0 := by intro z; rw [z, hu_dl_0] at e1; omega
    have s := hu_pa_spec h hp b0 hb
    have d := hu_d_s h hp b0 hb
    refine ih (hu_pa k M b) (by omega) (by omega) ?_
    rw [Nat.pow_succ, Nat.mul_comm, ← Nat.div_div_eq_div_mul] at e2
    have e3 : hu_dv k M b / 2 = hu_dv k M (hu_pa k M b) := by omega
    rw [e3] at e2
    exact e2
/-- the slot of a leaf -/
def hu_ls (k : Nat → Nat) (M : Nat) (R : Nat → Nat) (s : Nat) : Nat := hu_lst (fun i => decide (k (i + 1) = k i ∧ R (i - k i) = s)) (2 * M + 1)
theorem hu_ls_spec (h : hu_sh M k) {s j : Nat} (hj : j ≤ M) (hR : R j = s) : hu_ls k M R s < 2 * M + 1 ∧ k (hu_ls k M R s + 1) = k (hu_ls k M R s) ∧ R (hu_ls k M R s - k (hu_ls k M R s)) = s := by
  obtain ⟨i, i1, i2, i3⟩ := hu_exLf h (2 * M + 1) (Nat.le_refl _) j (by rw [h.2.1]; omega)
  have ej : i - k i = j := by omega
  have x := hu_lst_spec (p := fun i => decide (k (i + 1) = k i ∧ R (i - k i) = s)) (2 * M + 1) ⟨i, i1, decide_eq_true ⟨i2, by rw [ej, hR]⟩⟩
  have e : hu_lst (fun i => decide (k (i + 1) = k i ∧ R (i - k i) = s)) (2 * M + 1) = hu_ls k M R s := rfl
  rw [e] at x
  generalize hu_ls k M R s = z at *
  obtain ⟨x1, x2, x3⟩ := x
  rw [decide_eq_true_iff] at x2
  exact ⟨x1, x2.1, x2.2⟩
theorem hu_ls_eq (hr : hu_ro A M R wt) (h : hu_sh M k) {s i : Nat} (hi : i < 2 * M + 1) (hl : k (i + 1) = k i) (hR : R (i - k i) = s) : hu_ls k M R s = i := by
  have jM := hu_lfM h hi hl
  have x := hu_ls_spec h jM hR
  exact hu_lfU h x.1 hi x.2.1 hl (hr.2.2.1 _ _ (hu_lfM h x.1 x.2.1) jM (by rw [x.2.2, hR]))
/-- the slot whose tree code begins the full code -/
def hu_qs (k : Nat → Nat) (M : Nat) (R wt : Nat → Nat) (s : Nat) : Nat := if wt s = 0 then 2 * M else hu_ls k M R s
theorem hu_E_slot (hs : hu_sh M k) (hp : hu_ps M k) : k (2 * M + 1) = k (2 * M) ∧ 2 * M - k (2 * M) = M := by
  have l0 := hu_last hs hp
  have := hs.2.1
  omega
theorem hu_ro_E (hr : hu_ro A M R wt) {s : Nat} (hs : s < A) (hw : wt s = 0) : R M = 100 ∧ hu_cz wt A + M = A ∧ 1 ≤ hu_cz wt A := by
  have x := hu_ro_fr hr hs hw
  have y := hu_cz_pos hw A hs
  rcases hr.2.2.2.2.1 with z | z
  · exact ⟨z.1, z.2.2, y⟩
  · omega
theorem hu_qs_spec (hr : hu_ro A M R wt) (h : hu_sh M k) (hp : hu_ps M k) {s : Nat} (hs : s < A) : hu_qs k M R wt s < 2 * M + 1 ∧ k (hu_qs k M R wt s + 1) = k (hu_qs k M R wt s) ∧ R (hu_qs k M R wt s - k (hu_qs k M R wt s)) = (if wt s = 0 then 100 else s) := by
  unfold hu_qs
  by_cases c : wt s = 0
  · rw [if_pos c, if_pos c]
    have e := hu_E_slot h hp
    refine ⟨by omega, e.1, ?_⟩
    rw [e.2]
    exact (hu_ro_E hr hs c).1
  · rw [if_neg c, if_neg c]
    obtain ⟨j, hj, hR⟩ := hu_ro_ex hr (s := s) (by have := hr.2.1; omega) c
    exact hu_ls_spec h hj hR
def hu_fl (u : Nat) : Nat := if u < 2 then 0 else if u < 4 then 1 else if u < 8 then 2 else if u < 16 then 3 else if u < 32 then 4 else 5
/-- how many tails are short -/
def hu_so2 (u : Nat) : Nat := 2 * 2 ^ hu_fl u - u
theorem hu_fl_all : ∀ u, u < 33 → 1 ≤ u → 2 ^ hu_fl u ≤ u ∧ u < 2 * 2 ^ hu_fl u ∧ hu_fl u ≤ 5 ∧ hu_fl u + 1 ≤ u ∧ (2 ^ hu_fl u < u → hu_fl u + 2 ≤ u) ∧ 1 ≤ hu_so2 u ∧ hu_so2 u ≤ 2 ^ hu_fl u := by decide +kernel
def hu_tn (A : Nat) (wt : Nat → Nat) (s : Nat) : Nat := if wt s = 0 then (if hu_cz wt s < hu_so2 (hu_cz wt A) then hu_fl (hu_cz wt A) else hu_fl (hu_cz wt A) + 1) else 0
def hu_tv (A : Nat) (wt : Nat → Nat) (s : Nat) : Nat := if wt s = 0 then (if hu_cz wt s < hu_so2 (hu_cz wt A) then hu_cz wt s else hu_cz wt s + hu_so2 (hu_cz wt A)) else 0
theorem hu_cz_mo (wt : Nat → Nat) : ∀ d a, hu_cz wt a ≤ hu_cz wt (a + d) := by
  intro d
  induction d with
  | zero => intro a; exact Nat.le_refl _
  | succ d ih =>
    intro a
    have x := ih a
    have e : hu_cz wt (a + (d + 1)) = hu_cz wt (a + d) + (if wt (a + d) = 0 then 1 else 0) := rfl
    rw [e]
    omega
theorem hu_cz_lt {a b : Nat} (h : a < b) (h0 : wt a = 0) : hu_cz wt a < hu_cz wt b := by
  have x := hu_cz_mo wt (b - (a + 1)) (a + 1)
  have e : a + 1 + (b - (a + 1)) = b := by omega
  rw [e] at x
  have e2 : hu_cz wt (a + 1) = hu_cz wt a + (if wt a = 0 then 1 else 0) := rfl
  rw [e2, if_pos h0] at x
  omega
/-- the tail is short enough, and its value fits -/
theorem hu_tail (hA : A ≤ 32) {s : Nat} (hs : s < A) (h0 : wt s = 0) : hu_tv A wt s < 2 ^ hu_tn A wt s ∧ hu_tn A wt s + 1 ≤ hu_cz wt A ∧ hu_tn A wt s ≤ 6 := by
  have l := hu_cz_lt hs h0
  have le := hu_cz_le wt A
  have f := hu_fl_all (hu_cz wt A) (by omega) (by omega)
  unfold hu_tv hu_tn
  rw [if_pos h0, if_pos h0]
  by_cases c : hu_cz wt s < hu_so2 (hu_cz wt A)
  · rw [if_pos c, if_pos c]
    omega
  · rw [if_neg c, if_neg c, Nat.pow_succ]
    have g : hu_so2 (hu_cz wt A) = 2 * 2 ^ hu_fl (hu_cz wt A) - hu_cz wt A := rfl
    omega
def hu_cl (A M : Nat) (k R wt : Nat → Nat) (s : Nat) : Nat := hu_dl k M (hu_qs k M R wt s) + hu_tn A wt s
def hu_cv (A M : Nat) (k R wt : Nat → Nat) (s : Nat) : Nat := hu_dv k M (hu_qs k M R wt s) * 2 ^ hu_tn A wt s + hu_tv A wt s
theorem hu_tv_lt (hA : A ≤ 32) {s : Nat} (hs : s < A) : hu_tv A wt s < 2 ^ hu_tn A wt s := by
  by_cases c : wt s = 0
  · exact (hu_tail hA hs c).1
  · unfold hu_tv hu_tn
    rw [if_neg c, if_neg c]
    decide
theorem hu_cl_le (hr : hu_ro A M R wt) (h : hu_sh M k) (hp : hu_ps M k) {s : Nat} (hs : s < A) : hu_cl A M k R wt s ≤ 31 ∧ hu_cl A M k R wt s < A := by
  have q := hu_qs_spec hr h hp hs
  have d := hu_dl_M h hp q.1
  have m := hu_ro_M hr
  have hA := hr.2.1
  unfold hu_cl
  by_cases c : wt s = 0
  · have t := hu_tail hA hs c
    have e := hu_ro_E hr hs c
    omega
  · have z : hu_tn A wt s = 0 := if_neg c
    omega
theorem hu_pw_add {a b t u : Nat} (ha : a < 2 ^ u) (ht : t < 2 ^ b) : a * 2 ^ b + t < 2 ^ (u + b) := by
  rw [Nat.pow_add]
  have x : (a + 1) * 2 ^ b ≤ 2 ^ u * 2 ^ b := Nat.mul_le_mul_right _ ha
  rw [Nat.add_mul] at x
  omega
theorem hu_cv_lt (hr : hu_ro A M R wt) (h : hu_sh M k) (hp : hu_ps M k) {s : Nat} (hs : s < A) : hu_cv A M k R wt s < 2 ^ hu_cl A M k R wt s := by
  have q := hu_qs_spec hr h hp hs
  exact hu_pw_add (hu_dv_lt h hp _ _ (Nat.le_refl _) q.1) (hu_tv_lt hr.2.1 hs)
theorem hu_pw31 {l : Nat} (h : l ≤ 31) : 2 ^ l ≤ 2 ^ 31 := Nat.pow_le_pow_right (by decide) h
end
end
section
/-! the reference: load -/
section
variable {sd A n : Nat} {tx : Nat → Nat}
variable {yA yT yC cl pl cf rl no co : Int32} {ty tl ch pt we ro wh hv pr iw cd : Nat → Int32}
/-- the text tx of n symbols: every beginning of it has its tree -/
def hu_OK (A n : Nat) (tx : Nat → Nat) : Prop := (∀ i, i < n → tx i < A) ∧ ∀ i, i ≤ n → ∃ k W : Nat → Nat, hu_ro A (hu_rp A tx i).1 (hu_rp A tx i).2.1 (hu_rp A tx i).2.2 ∧ hu_CI (hu_rp A tx i).1 (hu_rp A tx i).2.1 (hu_rp A tx i).2.2 k W 0 i
theorem hu_rp_wt (A : Nat) (tx : Nat → Nat) : ∀ n x, (hu_rp A tx n).2.2 x ≤ n := by
  intro n
  induction n with
  | zero => intro x; exact Nat.le_refl _
  | succ n ih =>
    intro x
    show (hu_us A (hu_rp A tx n) (tx n)).2.2 x ≤ n + 1
    rcases hc : hu_rp A tx n with ⟨M, R, wt⟩
    rw [hc] at ih
    have i1 : wt x ≤ n := ih x
    have i2 : wt (tx n) ≤ n := ih (tx n)
    by_cases c : wt (tx n) = 0
    · rw [hu_us_new c]
      show hu_up wt (tx n) 1 x ≤ n + 1
      unfold hu_up
      split <;> omega
    · rw [hu_us_old c]
      show hu_up wt (tx n) (wt (tx n) + 1) x ≤ n + 1
      unfold hu_up
      split <;> omega
theorem hy_load_36 {post : SY → Prop} {M : Nat} {k R wt W : Nat → Nat} (hsd : sd < 2) (hn : n ≤ 256) (ok : hu_OK A n tx) (htl : tl sd = nI n) (hty : ∀ i, i < n → ty (sd * 256 + i) = nI (tx i))
    (hrp : hu_rp A tx n = (M, R, wt)) (hr : hu_ro A M R wt) (hc : hu_CI M R wt k W 0 n)
    (K : ∀ we' ro' wh' hv' pr' iw' : Nat → Int32, hu_YR M R wt ro' we' → hu_NP M k R W wh' hv' pr' → post (nI A, yT, yC, cl, pl, cf, nI (M + 1), nI (2 * M + 1), co, ty, tl, ch, pt, we', ro', wh', hv', pr', iw', cd)) :
    ∀ (d i f : Nat) (ro we : Nat → Int32), i + d = n → d < f → hu_YR (hu_rp A tx i).1 (hu_rp A tx i).2.1 (hu_rp A tx i).2.2 ro we →
    wY_load_36 post (nI sd) f (nI i) (nI A) yT yC cl pl cf (nI ((hu_rp A tx i).1 + 1)) no co ty tl ch pt we ro wh hv pr iw cd := by
  have csd : (nI sd).toNatClampNeg = sd := nI_clamp (by omega)
  have in2 : vp_in (nI sd) 2 := vp_in_nI hsd (by omega)
  intro d
  induction d with
  | zero =>
    intro i f ro we hid hf Y
    obtain ⟨f, rfl⟩ : ∃ g, f = g + 1 := ⟨f - 1, by omega⟩
    have e : i = n := by omega
    subst e
    rw [hrp] at Y ⊢
    refine ⟨in2, ?_⟩
    rw [csd, htl]
    refine br_t (nI_le (Nat.le_refl _) (by omega)) ?_
    exact hy_number hr hc (by omega) Y (fun wh' hv' pr' iw' h => K we ro wh' hv' pr' iw' Y h)
  | succ d ih =>
    intro i f ro we hid hf Y
    obtain ⟨f, rfl⟩ : ∃ g, f = g + 1 := ⟨f - 1, by omega⟩
    refine ⟨in2, ?_⟩
    rw [csd, htl]
    refine br_f (nI_ge (by omega) (by omega)) ⟨pk_in _ 512 (by omega) (hx_256 sd i), ?_⟩
    rw [hx_c256 hsd (by omega), hty i (by omega)]
    obtain ⟨k1, W1, r1, c1⟩ := ok.2 i (by omega)
    have hw := hu_rp_wt A tx i
    have ti := ok.1 i (by omega)
    have nx : hu_rp A tx (i + 1) = hu_us A (hu_rp A tx i) (tx i) := rfl
    have ih' := fun ro' we' => ih (i + 1) f ro' we' (by omega) (by omega)
    rw [nx] at ih'
    rcases hc1 : hu_rp A tx i with ⟨M1, R1, wt1⟩
    rw [hc1] at Y r1 c1 hw ih'
    refine hy_update r1 ti (fun x => by have := hw x; have e : (M1, R1, wt1).2.2 x = wt1 x := rfl; omega) Y ?_
    intro ro' we' Y'
    exact nm_r (nI_1 i) (ih' ro' we' Y')
theorem hy_load_2 {post : SY → Prop} {M : Nat} {k R wt W : Nat → Nat} (hsd : sd < 2) (hn : n ≤ 256) (ok : hu_OK A n tx) (htl : tl sd = nI n) (hty : ∀ i, i < n → ty (sd * 256 + i) = nI (tx i))
    (hrp : hu_rp A tx n = (M, R, wt)) (hr : hu_ro A M R wt) (hc : hu_CI M R wt k W 0 n)
    (K : ∀ we' ro' wh' hv' pr' iw' : Nat → Int32, hu_YR M R wt ro' we' → hu_NP M k R W wh' hv' pr' → post (nI A, yT, yC, cl, pl, cf, nI (M + 1), nI (2 * M + 1), co, ty, tl, ch, pt, we', ro', wh', hv', pr', iw', cd)) :
    ∀ (d i f : Nat) (we : Nat → Int32), i + d = 32 → d < f → (∀ x, x < i → we x = 0) → wY_load_2 post (nI sd) (nI A) yT yC cl pl cf rl no co f (nI i) ty tl ch pt we ro wh hv pr iw cd := by
  intro d
  induction d with
  | zero =>
    intro i f we hid hf h
    obtain ⟨f, rfl⟩ : ∃ g, f = g + 1 := ⟨f - 1, by omega⟩
    have e : i = 32 := by omega
    subst e
    refine br_t (nI_le (a := 32) (Nat.le_refl _) (by omega)) (nm_r (e' := upd ro 0 100) rfl ⟨n + 1, ?_⟩)
    refine hy_load_36 hsd hn ok htl hty hrp hr hc K n 0 (n + 1) (upd ro 0 100) we (by omega) (by omega) ⟨?_, ?_⟩
    · intro j hj
      have e : j = 0 := by
        have : (hu_rp A tx 0).1 = 0 := rfl
        omega
      subst e
      exact pk_us
    · intro x hx
      rw [h x hx]
      rfl
  | succ d ih =>
    intro i f we hid hf h
    obtain ⟨f, rfl⟩ : ∃ g, f = g + 1 := ⟨f - 1, by omega⟩
    refine br_f (nI_ge (b := 32) (by omega) (by omega)) ⟨vp_in_nI (by omega) (by omega), nm_r (e' := upd we i 0) (by rw [nI_clamp (by omega)]) (nm_r (nI_1 i) (ih (i + 1) f _ (by omega) (by omega) ?_))⟩
    intro x hx
    by_cases c : x = i
    · rw [c, pk_us]
    · rw [pk_un c]; exact h x (by omega)
theorem hy_load {post : SY → Prop} {M : Nat} {k R wt W : Nat → Nat} (hsd : sd < 2) (hn : n ≤ 256) (ok : hu_OK A n tx) (htl : tl sd = nI n) (hty : ∀ i, i < n → ty (sd * 256 + i) = nI (tx i))
    (hrp : hu_rp A tx n = (M, R, wt)) (hr : hu_ro A M R wt) (hc : hu_CI M R wt k W 0 n)
    (K : ∀ we' ro' wh' hv' pr' iw' : Nat → Int32, hu_YR M R wt ro' we' → hu_NP M k R W wh' hv' pr' → post (nI A, yT, yC, cl, pl, cf, nI (M + 1), nI (2 * M + 1), co, ty, tl, ch, pt, we', ro', wh', hv', pr', iw', cd)) :
    wpY_load post (nI A, yT, yC, cl, pl, cf, rl, no, co, ty, tl, ch, pt, we, ro, wh, hv, pr, iw, cd) (nI sd) :=
  ⟨33, hy_load_2 hsd hn ok htl hty hrp hr hc K 32 0 33 we (by omega) (by omega) (fun x hx => by omega)⟩
end
end
section
/-! bits; the reference: makeCode -/
section
theorem hb_s : ∀ n, n < 32 → ((nI n &&& 31).toBitVec.smod 32).toNat = n := by decide +kernel
theorem hb_and1 {v : Nat} (hv : v < 2 ^ 31) : nI v &&& 1 = nI (v % 2) := pk_andN (by omega) 1 (by decide)
theorem hb_bit {v i : Nat} (hv : v < 2 ^ 31) (hi : i < 32) : (nI v >>> (nI i &&& 31)) &&& 1 = nI (v / 2 ^ i % 2) := by
  rw [pk_shrN hv _ i (hb_s i hi)]
  exact hb_and1 (Nat.lt_of_le_of_lt (Nat.div_le_self _ _) hv)
theorem hb_shl {a i : Nat} (hi : i < 32) (h : a * 2 ^ i < 2 ^ 31) : nI a <<< (nI i &&& 31) = nI (a * 2 ^ i) := pk_shlN _ i (hb_s i hi) (by omega)
theorem hb_1shl {i : Nat} (hi : i < 31) : (1 : Int32) <<< (nI i &&& 31) = nI (2 ^ i) := by
  have x := hb_shl (a := 1) (i := i) (by omega) (by have : 2 ^ i < 2 ^ 31 := Nat.pow_lt_pow_right (by decide) hi; omega)
  rw [Nat.one_mul] at x
  exact x
theorem hb_2shl {i : Nat} (hi : i < 30) : (2 : Int32) <<< (nI i &&& 31) = nI (2 * 2 ^ i) :=
  hb_shl (a := 2) (i := i) (by omega) (by have : 2 ^ i < 2 ^ 30 := Nat.pow_lt_pow_right (by decide) hi; omega)
theorem hb_lo {a b t i : Nat} (hi : i < b) : (a * 2 ^ b + t) / 2 ^ i % 2 = t / 2 ^ i % 2 := by
  obtain ⟨c, rfl⟩ : ∃ c, b = i + 1 + c := ⟨b - i - 1, by omega⟩
  have e : a * 2 ^ (i + 1 + c) = 2 ^ i * (2 * (a * 2 ^ c)) := by
    rw [Nat.pow_add, Nat.pow_succ]
    simp only [Nat.mul_assoc, Nat.mul_comm, Nat.mul_left_comm]
  rw [e, Nat.mul_add_div (Nat.two_pow_pos i)]
  omega
theorem hb_hi {a b t i : Nat} (ht : t < 2 ^ b) : (a * 2 ^ b + t) / 2 ^ (b + i) = a / 2 ^ i := by
  rw [Nat.pow_add, ← Nat.div_div_eq_div_mul, Nat.mul_comm a, Nat.mul_add_div (Nat.two_pow_pos b), Nat.div_eq_of_lt ht, Nat.add_zero]
def hu_BT (v len : Nat) (cd : Nat → Int32) : Prop := ∀ i, i < len → cd i = nI (v / 2 ^ (len - 1 - i) % 2)
theorem hx_m1 (x : Int32) : x + (-1) = x - 1 := (Int32.sub_eq_add_neg x 1).symm
theorem hx_neg : nI 0 - 1 < 0 := by decide
variable {A M n : Nat} {k R wt W : Nat → Nat}
variable {yA yT yC cl pl cf rl no co : Int32} {ty tl ch pt we ro wh hv pr iw cd : Nat → Int32}
theorem hy_mk_283 {post : SY → Prop} {tv D B dv : Nat} (htv : tv < 2 ^ B) (hB : B ≤ 6) (hD : D ≤ 40) (K : ∀ cd' : Nat → Int32, hu_BT (dv * 2 ^ B + tv) (D + B) cd' → post (yA, yT, yC, cl, pl, cf, rl, no, nI (D + B), ty, tl, ch, pt, we, ro, wh, hv, pr, iw, cd')) :
    ∀ (j f : Nat) (cd : Nat → Int32), j ≤ B → j < f → (∀ i, i < D + B - j → cd i = nI ((dv * 2 ^ B + tv) / 2 ^ (D + B - 1 - i) % 2)) →
    wY_makeCode_283 post (nI tv) yA yT yC cl pl cf rl no f (nI j - 1) (nI (D + B - j)) ty tl ch pt we ro wh hv pr iw cd := by
  have tv31 : tv < 2 ^ 31 := Nat.lt_of_lt_of_le htv (hu_pw31 (by omega))
  intro j
  induction j with
  | zero =>
    intro f cd hj hf h
    obtain ⟨f, rfl⟩ : ∃ g, f = g + 1 := ⟨f - 1, by omega⟩
    exact br_t hx_neg (K cd h)
  | succ j ih =>
    intro f cd hj hf h
    obtain ⟨f, rfl⟩ : ∃ g, f = g + 1 := ⟨f - 1, by omega⟩
    rw [nI_pred]
    refine br_f (nI_pos (by omega)) ⟨vp_in_nI (by omega) (by omega), nm_r (e' := upd cd (D + B - (j + 1)) (nI (tv / 2 ^ j % 2))) (by rw [nI_clamp (by omega), hb_bit tv31 (by omega)]) (nm_r (e' := nI (D + B - j)) (by rw [nI_1]; exact congrArg nI (by omega)) (nm_r (hx_m1 _) (ih f _ (by omega) (by omega) ?_)))⟩
    intro i hi
    by_cases c : i = D + B - (j + 1)
    · rw [c, pk_us]
      have e : D + B - 1 - (D + B - (j + 1)) = j := by omega
      rw [e, hb_lo (by omega)]
    · rw [pk_un c]
      exact h i (by omega)
theorem hb_g : ∀ u, u < 33 → 1 ≤ u → hu_lst (fun e => decide (2 ^ e ≤ u)) 6 = hu_fl u := by decide +kernel
theorem hy_mk_212 {post : SY → Prop} {u r D dv : Nat} (hu : u < 33) (hu1 : 1 ≤ u) (hr : r < u) (hD : D ≤ 40) (hbt : hu_BT dv D cd)
    (K : ∀ cd' : Nat → Int32, hu_BT (dv * 2 ^ (if r < hu_so2 u then hu_fl u else hu_fl u + 1) + (if r < hu_so2 u then r else r + hu_so2 u)) (D + (if r < hu_so2 u then hu_fl u else hu_fl u + 1)) cd' → post (yA, yT, yC, cl, pl, cf, rl, no, nI (D + (if r < hu_so2 u then hu_fl u else hu_fl u + 1)), ty, tl, ch, pt, we, ro, wh, hv, pr, iw, cd')) :
    ∀ (d i f : Nat), i + d = 6 → d < f → wY_makeCode_212 post (nI u) (nI r) yA yT yC cl pl cf rl no (nI D) ty tl ch pt we ro wh hv pr iw cd f (nI (hu_lst (fun e => decide (2 ^ e ≤ u)) i)) (nI i) := by
  have F := hu_fl_all u hu hu1
  have so : hu_so2 u = 2 * 2 ^ hu_fl u - u := rfl
  intro d
  induction d with
  | zero =>
    intro i f hid hf
    obtain ⟨f, rfl⟩ : ∃ g, f = g + 1 := ⟨f - 1, by omega⟩
    have e : i = 6 := by omega
    subst e
    rw [hb_g u hu hu1]
    have p64 : 2 ^ (hu_fl u + 1) ≤ 2 ^ 6 := Nat.pow_le_pow_right (by decide) (by omega)
    have e1 : (1 : Int32) <<< ((nI (hu_fl u) + 1) &&& 31) - nI u = nI (hu_so2 u) := by
      rw [nI_1, hb_1shl (by omega), pk_sub (by rw [Nat.pow_succ]; omega), so]
      exact congrArg nI (by rw [Nat.pow_succ]; omega)
    have start : ∀ B tv, tv < 2 ^ B → (∀ i, i < D + B - B → cd i = nI ((dv * 2 ^ B + tv) / 2 ^ (D + B - 1 - i) % 2)) := by
      intro B tv htv i hi
      rw [hbt i (by omega)]
      have e : D + B - 1 - i = B + (D - 1 - i) := by omega
      rw [e, hb_hi htv]
    refine br_t (nI_le (a := 6) (Nat.le_refl _) (by omega)) (nm_r e1 ?_)
    by_cases c : r < hu_so2 u
    · rw [if_pos c, if_pos c] at K
      have rl2 : r < 2 ^ hu_fl u := by omega
      refine br_t (nI_lt c (by omega)) (nm_r (e' := nI (hu_fl u) - 1) rfl ⟨hu_fl u + 1, ?_⟩)
      have x := hy_mk_283 rl2 (by omega) hD K (hu_fl u) (hu_fl u + 1) cd (Nat.le_refl _) (by omega) (start _ _ rl2)
      rw [Nat.add_sub_cancel] at x
      exact x
    · rw [if_neg c, if_neg c] at K
      have rl2 : r + hu_so2 u < 2 ^ (hu_fl u + 1) := by rw [Nat.pow_succ]; omega
      refine br_f (nI_nlt (by omega) (by omega)) (nm_r (nI_add r (hu_so2 u)) (nm_r (nI_1 (hu_fl u)) (nm_r (e' := nI (hu_fl u + 1) - 1) rfl ⟨hu_fl u + 2, ?_⟩)))
      have x := hy_mk_283 rl2 (by omega) hD K (hu_fl u + 1) (hu_fl u + 2) cd (Nat.le_refl _) (by omega) (start _ _ rl2)
      rw [Nat.add_sub_cancel] at x
      exact x
  | succ d ih =>
    intro i f hid hf
    obtain ⟨f, rfl⟩ : ∃ g, f = g + 1 := ⟨f - 1, by omega⟩
    have nx := ih (i + 1) f (by omega) (by omega)
    have es : hu_lst (fun e => decide (2 ^ e ≤ u)) (i + 1) = if decide (2 ^ i ≤ u) = true then i else hu_lst (fun e => decide (2 ^ e ≤ u)) i := rfl
    rw [es] at nx
    have p64 : 2 ^ i ≤ 2 ^ 6 := Nat.pow_le_pow_right (by decide) (by omega)
    refine br_f (nI_ge (b := 6) (by omega) (by omega)) ?_
    rw [hb_1shl (by omega)]
    by_cases c : 2 ^ i ≤ u
    · rw [if_pos (decide_eq_true c)] at nx
      exact br_f (nI_nlt (by omega) (by omega)) (nm_r (nI_1 i) nx)
    · rw [if_neg (by rw [decide_eq_true_iff]; exact c)] at nx
      exact br_t (nI_lt (by omega) (by omega)) (nm_r (nI_1 i) nx)
theorem hy_mk_169 {post : SY → Prop} {s D dv : Nat} (hA : A ≤ 32) (hs : s < A) (h0 : wt s = 0) (hw : ∀ x, x < 32 → we x = nI (wt x)) (hwt : ∀ x, wt x < 2 ^ 20) (hD : D ≤ 40) (hbt : hu_BT dv D cd)
    (K : ∀ cd' : Nat → Int32, hu_BT (dv * 2 ^ hu_tn A wt s + hu_tv A wt s) (D + hu_tn A wt s) cd' → post (nI A, yT, yC, cl, pl, cf, rl, no, nI (D + hu_tn A wt s), ty, tl, ch, pt, we, ro, wh, hv, pr, iw, cd')) :
    ∀ (d i f : Nat), i + d = A → d < f → wY_makeCode_169 post (nI s) (nI A) yT yC cl pl cf rl no (nI D) ty tl ch pt we ro wh hv pr iw cd f (nI (hu_cz wt i)) (nI (hu_cz wt (if i < s then i else s))) (nI i) := by
  have l := hu_cz_lt hs h0
  intro d
  induction d with
  | zero =>
    intro i f hid hf
    obtain ⟨f, rfl⟩ : ∃ g, f = g + 1 := ⟨f - 1, by omega⟩
    have e : i = A := by omega
    subst e
    have le := hu_cz_le wt i
    rw [if_neg (by omega)]
    refine br_t (nI_le (Nat.le_refl _) (by omega)) ⟨7, ?_⟩
    refine hy_mk_212 (u := hu_cz wt i) (by omega) (by omega) l hD hbt ?_ 6 0 7 (by omega) (by omega)
    unfold hu_tn hu_tv at K
    rw [if_pos h0, if_pos h0] at K
    exact K
  | succ d ih =>
    intro i f hid hf
    obtain ⟨f, rfl⟩ : ∃ g, f = g + 1 := ⟨f - 1, by omega⟩
    have nx := ih (i + 1) f (by omega) (by omega)
    have es : hu_cz wt (i + 1) = hu_cz wt i + (if wt i = 0 then 1 else 0) := rfl
    refine br_f (nI_ge (by omega) (by omega)) ⟨vp_in_nI (by omega) (by omega), ?_⟩
    rw [nI_clamp (by omega), hw i (by omega)]
    by_cases c : wt i = 0
    · rw [if_pos c] at es
      refine br_t (by rw [c]; rfl) (nm_r (nI_1 _) ?_)
      by_cases c2 : s ≤ i
      · rw [if_neg (by omega)] at nx ⊢
        rw [es] at nx
        exact br_t (nI_le c2 (by omega)) (nm_r (nI_1 i) nx)
      · have e3 : hu_cz wt (if i + 1 < s then i + 1 else s) = hu_cz wt i + 1 := by
          by_cases c3 : i + 1 < s
          · rw [if_pos c3, es]
          · have e4 : s = i + 1 := by omega
            rw [if_neg c3, e4, es]
        rw [e3, es] at nx
        rw [if_pos (by omega)]
        exact br_f (nI_ge (by omega) (by omega)) (nm_r (nI_1 _) (nm_r (nI_1 i) nx))
    · rw [if_neg c] at es
      have e3 : hu_cz wt (if i + 1 < s then i + 1 else s) = hu_cz wt (if i < s then i else s) := by
        by_cases c3 : i + 1 < s
        · rw [if_pos c3, if_pos (by omega), es]; rfl
        · rw [if_neg c3]
          by_cases c4 : i < s
          · have e4 : s = i + 1 := by omega
            rw [if_pos c4, e4, es]; rfl
          · rw [if_neg c4]
      rw [e3, es] at nx
      exact br_f (nI_ne0 (by omega) (by have := hwt i; omega)) (nm_r (nI_1 i) nx)
theorem hu_NP_pa {q : Nat} (h : hu_sh M k) (hp : hu_ps M k) (N : hu_NP M k R W wh hv pr) (q0 : q ≠ 0) (hq : q < 2 * M + 1) : pr (2 * M + 1 - q) = nI (2 * M + 1 - hu_pa k M q) := by
  have s := hu_pa_spec h hp q0 hq
  have x := N.2.1 (hu_pa k M q) s.2.1 s.2.2.2.1
  by_cases c : q % 2 = 1
  · have e : 2 * M - 2 * k (hu_pa k M q) = 2 * M + 1 - q := by omega
    rw [e] at x
    exact x.1
  · have e : 2 * M - 1 - 2 * k (hu_pa k M q) = 2 * M + 1 - q := by omega
    rw [e] at x
    exact x.2
theorem hy_mk_104 {post : SY → Prop} {x1 x2 : Int32} {D dv : Nat} (hM : M < 32) (h : hu_sh M k) (hp : hu_ps M k) (N : hu_NP M k R W wh hv pr)
    (K : ∀ cd' : Nat → Int32, hu_BT dv D cd' → ((x2 = 100 → (∃ n169 : Nat, wY_makeCode_169 post x1 yA yT yC cl pl cf rl no (nI D) ty tl ch pt we ro wh hv pr iw cd' n169 0 0 0)) ∧ (¬ x2 = 100 → post (yA, yT, yC, cl, pl, cf, rl, no, nI D, ty, tl, ch, pt, we, ro, wh, hv, pr, iw, cd')))) (hD : D ≤ M) :
    ∀ (b q f : Nat) (cd : Nat → Int32), q ≤ b → q < 2 * M + 1 → hu_dl k M q < f → hu_dl k M q ≤ D → dv / 2 ^ (D - hu_dl k M q) = hu_dv k M q → (∀ i, hu_dl k M q ≤ i → i < D → cd i = nI (dv / 2 ^ (D - 1 - i) % 2)) →
    wY_makeCode_104 post x1 x2 (nI D) yA yT yC cl pl cf rl no co f (nI (2 * M + 1 - q)) (nI (hu_dl k M q) - 1) ty tl ch pt we ro wh hv pr iw cd := by
  have Z : ∀ (f : Nat) (cd : Nat → Int32), 0 < f → (∀ i, hu_dl k M 0 ≤ i → i < D → cd i = nI (dv / 2 ^ (D - 1 - i) % 2)) → wY_makeCode_104 post x1 x2 (nI D) yA yT yC cl pl cf rl no co f (nI (2 * M + 1 - 0)) (nI (hu_dl k M 0) - 1) ty tl ch pt we ro wh hv pr iw cd := by
    intro f cd hf hc
    obtain ⟨f, rfl⟩ : ∃ g, f = g + 1 := ⟨f - 1, by omega⟩
    exact br_t hx_neg (K cd (fun i hi => hc i (by rw [hu_dl_0]; omega) hi))
  intro b
  induction b with
  | zero =>
    intro q f cd hb hq hf hl he hc
    have e : q = 0 := by omega
    subst e
    exact Z f cd (by omega) hc
  | succ b ih =>
    intro q f cd hb hq hf hl he hc
    by_cases q0 : q = 0
    · subst q0
      exact Z f cd (by omega) hc
    · obtain ⟨f, rfl⟩ : ∃ g, f = g + 1 := ⟨f - 1, by omega⟩
      have s := hu_pa_spec h hp q0 hq
      have ds := hu_d_s h hp q0 hq
      have pq := hu_NP_pa h hp N q0 hq
      have cq : (nI (2 * M + 1 - q)).toNatClampNeg = 2 * M + 1 - q := nI_clamp (by omega)
      have dM := hu_dl_M h hp hq
      rw [ds.1] at hl he hc hf ⊢
      rw [nI_pred]
      have cj : (nI (hu_dl k M (hu_pa k M q))).toNatClampNeg = hu_dl k M (hu_pa k M q) := nI_clamp (by omega)
      have inj : vp_in (nI (hu_dl k M (hu_pa k M q))) 128 := vp_in_nI (by omega) (by omega)
      have inq : vp_in (nI (2 * M + 1 - q)) 68 := vp_in_nI (by omega) (by omega)
      refine br_f (nI_pos (by omega)) ⟨inj, nm_r (e' := upd cd (hu_dl k M (hu_pa k M q)) 0) (by rw [cj]) ⟨by decide, ?_⟩⟩
      rw [hx_rem2 (by omega)]
      have he2 : dv / 2 ^ (D - hu_dl k M (hu_pa k M q)) = hu_dv k M (hu_pa k M q) := by
        have e : D - hu_dl k M (hu_pa k M q) = (D - (hu_dl k M (hu_pa k M q) + 1)) + 1 := by omega
        rw [e, Nat.pow_succ, ← Nat.div_div_eq_div_mul, he]
        omega
      have bit : dv / 2 ^ (D - 1 - hu_dl k M (hu_pa k M q)) % 2 = q % 2 := by
        have e : D - 1 - hu_dl k M (hu_pa k M q) = D - (hu_dl k M (hu_pa k M q) + 1) := by omega
        rw [e, he]
        omega
      by_cases c : q % 2 = 1
      · have e0 : (2 * M + 1 - q) % 2 = 0 := by omega
        rw [e0]
        refine br_t rfl ⟨inj, nm_r (e' := upd (upd cd (hu_dl k M (hu_pa k M q)) 0) (hu_dl k M (hu_pa k M q)) 1) (by rw [cj]) ⟨inq, nm_r (e' := nI (2 * M + 1 - hu_pa k M q)) (by rw [cq, pq]) (nm_r (hx_m1 _) (ih (hu_pa k M q) f _ (by omega) (by omega) (by omega) (by omega) he2 ?_))⟩⟩
        intro i h1 h2
        by_cases d : i = hu_dl k M (hu_pa k M q)
        · rw [d, pk_us, bit, c]; rfl
        · rw [pk_un d, pk_un d]; exact hc i (by omega) h2
      · have e0 : (2 * M + 1 - q) % 2 = 1 := by omega
        rw [e0]
        refine br_f (by decide) ⟨inq, nm_r (e' := nI (2 * M + 1 - hu_pa k M q)) (by rw [cq, pq]) (nm_r (hx_m1 _) (ih (hu_pa k M q) f _ (by omega) (by omega) (by omega) (by omega) he2 ?_))⟩
        intro i h1 h2
        by_cases d : i = hu_dl k M (hu_pa k M q)
        · have c2 : q % 2 = 0 := by omega
          rw [d, pk_us, bit, c2]; rfl
        · rw [pk_un d]; exact hc i (by omega) h2
theorem hy_mk_60 {post : SY → Prop} {x1 x2 x3 : Int32} {D : Nat} (hM : M < 32) (h : hu_sh M k) (hp : hu_ps M k) (N : hu_NP M k R W wh hv pr) (hD : D ≤ M)
    (J : ∃ n104 : Nat, wY_makeCode_104 post x1 x2 (nI D) yA yT yC cl pl cf rl no co n104 x3 (nI D - 1) ty tl ch pt we ro wh hv pr iw cd) :
    ∀ (b q st f : Nat), q ≤ b → q < 2 * M + 1 → st + hu_dl k M q = D → hu_dl k M q < f → wY_makeCode_60 post x1 x2 x3 yA yT yC cl pl cf rl no co ty tl ch pt we ro wh hv pr iw cd f (nI st) (nI (2 * M + 1 - q)) (nI st) := by
  have Z : ∀ (st f : Nat), st + hu_dl k M 0 = D → 0 < f → wY_makeCode_60 post x1 x2 x3 yA yT yC cl pl cf rl no co ty tl ch pt we ro wh hv pr iw cd f (nI st) (nI (2 * M + 1 - 0)) (nI st) := by
    intro st f e hf
    obtain ⟨f, rfl⟩ : ∃ g, f = g + 1 := ⟨f - 1, by omega⟩
    rw [hu_dl_0, Nat.add_zero] at e
    subst e
    refine br_f (nI_ge (b := 64) (by omega) (by omega)) ⟨vp_in_nI (by omega) (by omega), ?_⟩
    rw [nI_clamp (by omega)]
    have z : pr (2 * M + 1 - 0) = 0 := N.2.2
    rw [z]
    exact br_t (by decide) (nm_r (e' := nI st - 1) rfl J)
  intro b
  induction b with
  | zero =>
    intro q st f hb hq e hf
    have e0 : q = 0 := by omega
    subst e0
    exact Z st f e (by omega)
  | succ b ih =>
    intro q st f hb hq e hf
    by_cases q0 : q = 0
    · subst q0
      exact Z st f e (by omega)
    · obtain ⟨f, rfl⟩ : ∃ g, f = g + 1 := ⟨f - 1, by omega⟩
      have s := hu_pa_spec h hp q0 hq
      have ds := hu_d_s h hp q0 hq
      have pq := hu_NP_pa h hp N q0 hq
      have cq : (nI (2 * M + 1 - q)).toNatClampNeg = 2 * M + 1 - q := nI_clamp (by omega)
      refine br_f (nI_ge (b := 64) (by omega) (by omega)) ⟨vp_in_nI (by omega) (by omega), ?_⟩
      rw [cq, pq]
      refine br_f (nI_nle (by omega) (by omega)) (nm_r (nI_1 st) ⟨vp_in_nI (by omega) (by omega), nm_r (e' := nI (2 * M + 1 - hu_pa k M q)) rfl (nm_r (nI_1 st) (ih (hu_pa k M q) (st + 1) f (by omega) (by omega) (by omega) (by omega)))⟩)
theorem hy_mk_22 {post : SY → Prop} {x1 : Int32} {lv q : Nat} (hr : hu_ro A M R wt) (h : hu_sh M k) (N : hu_NP M k R W wh hv pr) (hlv : lv ≤ 100) (hq : q < 2 * M + 1) (hl : k (q + 1) = k q) (hR : R (q - k q) = lv)
    (J : ∃ n60 : Nat, wY_makeCode_60 post x1 (nI lv) (nI (2 * M + 1 - q)) yA yT yC cl pl cf rl (nI (2 * M + 1)) co ty tl ch pt we ro wh hv pr iw cd n60 0 (nI (2 * M + 1 - q)) 0) :
    ∀ (d i f : Nat) (x3 : Int32), 1 ≤ i → i + d = 2 * M + 2 → d < f → (2 * M + 1 - q < i → x3 = nI (2 * M + 1 - q)) → wY_makeCode_22 post x1 (nI lv) yA yT yC cl pl cf rl (nI (2 * M + 1)) co ty tl ch pt we ro wh hv pr iw cd f x3 (nI i) := by
  have hM := hu_ro_M hr
  intro d
  induction d with
  | zero =>
    intro i f x3 h1 hid hf e
    obtain ⟨f, rfl⟩ : ∃ g, f = g + 1 := ⟨f - 1, by omega⟩
    have e2 := e (by omega)
    subst e2
    exact br_t (nI_lt (by omega) (by omega)) J
  | succ d ih =>
    intro i f x3 h1 hid hf e
    obtain ⟨f, rfl⟩ : ∃ g, f = g + 1 := ⟨f - 1, by omega⟩
    refine br_f (nI_nlt (by omega) (by omega)) ⟨vp_in_nI (by omega) (by omega), ?_⟩
    rw [nI_clamp (by omega)]
    have w := (N.1 (2 * M + 1 - i) (by omega)).2
    have ei : 2 * M + 1 - (2 * M + 1 - i) = i := by omega
    rw [ei] at w
    rw [w]
    by_cases c : i = 2 * M + 1 - q
    · have eq : 2 * M + 1 - i = q := by omega
      rw [eq, if_pos hl, hR]
      exact br_t rfl (nm_r (nI_1 i) (ih (i + 1) f _ (by omega) (by omega) (by omega) (fun _ => by rw [c])))
    · have nx := ih (i + 1) f x3 (by omega) (by omega) (by omega) (fun z => e (by omega))
      refine br_f ?_ (nm_r (nI_1 i) nx)
      by_cases g : k (2 * M + 1 - i + 1) = k (2 * M + 1 - i)
      · rw [if_pos g]
        have jM := hu_lfM h (by omega) g
        have v := hu_ro_val hr jM
        intro z
        have y := (nI_eq (by omega) (by omega)).mp z
        have x := hr.2.2.1 _ _ jM (hu_lfM h hq hl) (by rw [y, hR])
        have := hu_lfU h (by omega) hq g hl x
        omega
      · rw [if_neg g]
        intro z
        have y := (nI_eq (by omega) (by omega)).mp z
        omega
theorem hy_make {post : SY → Prop} {s : Nat} (hr : hu_ro A M R wt) (hc : hu_CI M R wt k W 0 n) (hwt : ∀ x, wt x < 2 ^ 20) (Y : hu_YR M R wt ro we) (N : hu_NP M k R W wh hv pr) (hs : s < A)
    (K : ∀ cd' : Nat → Int32, hu_BT (hu_cv A M k R wt s) (hu_cl A M k R wt s) cd' → post (nI A, yT, yC, cl, pl, cf, rl, nI (2 * M + 1), nI (hu_cl A M k R wt s), ty, tl, ch, pt, we, ro, wh, hv, pr, iw, cd')) :
    wpY_makeCode post (nI A, yT, yC, cl, pl, cf, rl, nI (2 * M + 1), co, ty, tl, ch, pt, we, ro, wh, hv, pr, iw, cd) (nI s) := by
  have hA := hr.2.1
  have hM := hu_ro_M hr
  have h := hc.1
  have hp := hc.2.1
  have q := hu_qs_spec hr h hp hs
  have dM := hu_dl_M h hp q.1
  have main : ∀ (lv : Nat), lv ≤ 100 → R (hu_qs k M R wt s - k (hu_qs k M R wt s)) = lv →
      (∀ cd' : Nat → Int32, hu_BT (hu_dv k M (hu_qs k M R wt s)) (hu_dl k M (hu_qs k M R wt s)) cd' → ((nI lv = 100 → (∃ n169 : Nat, wY_makeCode_169 post (nI s) (nI A) yT yC cl pl cf rl (nI (2 * M + 1)) (nI (hu_dl k M (hu_qs k M R wt s))) ty tl ch pt we ro wh hv pr iw cd' n169 0 0 0)) ∧ (¬ nI lv = 100 → post (nI A, yT, yC, cl, pl, cf, rl, nI (2 * M + 1), nI (hu_dl k M (hu_qs k M R wt s)), ty, tl, ch, pt, we, ro, wh, hv, pr, iw, cd')))) →
      ∃ n22 : Nat, wY_makeCode_22 post (nI s) (nI lv) (nI A) yT yC cl pl cf rl (nI (2 * M + 1)) co ty tl ch pt we ro wh hv pr iw cd n22 (nI (2 * M + 1)) 1 := by
    intro lv hlv hR F
    refine ⟨2 * M + 2, hy_mk_22 hr h N hlv q.1 q.2.1 hR ⟨hu_dl k M (hu_qs k M R wt s) + 1, ?_⟩ (2 * M + 1) 1 (2 * M + 2) _ (Nat.le_refl _) (by omega) (by omega) (fun z => absurd z (by have := q.1; omega))⟩
    refine hy_mk_60 hM.2 h hp N dM ⟨hu_dl k M (hu_qs k M R wt s) + 1, ?_⟩ (hu_qs k M R wt s) (hu_qs k M R wt s) 0 _ (Nat.le_refl _) q.1 (by omega) (by omega)
    refine hy_mk_104 hM.2 h hp N F dM (hu_qs k M R wt s) (hu_qs k M R wt s) _ cd (Nat.le_refl _) q.1 (by omega) (Nat.le_refl _) ?_ (fun i h1 h2 => by omega)
    rw [Nat.sub_self]
    exact Nat.div_one _
  refine ⟨vp_in_nI (by omega) (by omega), ?_⟩
  rw [nI_clamp (by omega), Y.2 s (by omega)]
  have q3 := q.2.2
  by_cases c : wt s = 0
  · rw [if_pos c] at q3
    refine br_t (by rw [c]; rfl) (main 100 (by omega) q3 ?_)
    intro cd' B
    refine br_t rfl ⟨A + 1, ?_⟩
    have x := hy_mk_169 (post := post) hA hs c Y.2 hwt (by omega) B K A 0 (A + 1) (by omega) (by omega)
    have e : hu_cz wt (if 0 < s then 0 else s) = 0 := by
      by_cases d : 0 < s
      · rw [if_pos d]; rfl
      · have e : s = 0 := by omega
        rw [if_neg d, e]; rfl
    rw [e] at x
    exact x
  · rw [if_neg c] at q3
    have z : hu_tn A wt s = 0 := if_neg c
    have z2 : hu_tv A wt s = 0 := if_neg c
    unfold hu_cv hu_cl at K
    rw [z, z2, Nat.pow_zero, Nat.mul_one, Nat.add_zero, Nat.add_zero] at K
    refine br_f (nI_ne0 (by omega) (by have := hwt s; omega)) (main s (by omega) q3 ?_)
    intro cd' B
    exact br_f (fun z => by have := (nI_eq (b := 100) (by omega) (by omega)).mp z; omega) (K cd' B)
end
end
section
/-! the component: codes -/
section
variable {sd A M n : Nat} {k R wt W : Nat → Nat}
variable {eA eT eC rh rc pb pc ds tb tc un : Int32} {oc sw iz lz nd sn tx tn rg : Nat → Int32}
theorem hu_XT_lz0 {s : Nat} (I : hu_XT sd A n M R wt k W oc sw iz lz nd sn) (hs : s < 32) (hw : wt s = 0) : lz (sd * 32 + s) = 0 := I.2.2.1.2.2.1 s hs (hu_ro_un I.1 hs hw)
theorem hu_M1 (hr : hu_ro A M R wt) {s : Nat} (hs : s < 32) (hw : wt s ≠ 0) : 1 ≤ M := by
  obtain ⟨j, hj, hR⟩ := hu_ro_ex hr hs hw
  by_cases c : M = 0
  · subst c
    have e : j = 0 := by omega
    rcases hr.2.2.2.2.1 with x | x
    · rw [e] at hR; omega
    · have := hr.1; omega
  · omega
theorem hu_XT_lz1 {s : Nat} (I : hu_XT sd A n M R wt k W oc sw iz lz nd sn) (hs : s < 32) (hw : wt s ≠ 0) : lz (sd * 32 + s) = nI (hu_ls k M R s) ∧ hu_ls k M R s ≠ 0 ∧ hu_ls k M R s < 2 * M + 1 := by
  obtain ⟨hr, hc, t, hnd, hsn⟩ := I
  obtain ⟨j, hj, hR⟩ := hu_ro_ex hr hs hw
  have sp := hu_ls_spec hc.1 hj hR
  have y := (t.2.1 _ sp.1 sp.2.1).2
  rw [sp.2.2] at y
  refine ⟨y hs, ?_, sp.1⟩
  intro e
  have M1 := hu_M1 hr hs hw
  have x1 : k (0 + 1) = 1 := hu_root hc.1 hc.2.1 M1
  have x2 := hc.1.1
  rw [e] at sp
  omega
theorem hu_XT_iz {q : Nat} (I : hu_XT sd A n M R wt k W oc sw iz lz nd sn) (q0 : q ≠ 0) (hq : q < 2 * M + 1) : iz (sd * 36 + (q - 1) / 2) = nI (hu_pa k M q) := by
  obtain ⟨hr, hc, t, hnd, hsn⟩ := I
  have s := hu_pa_spec hc.1 hc.2.1 q0 hq
  rw [← s.2.2.1]
  exact (t.1 _ s.2.1 s.2.2.2.1).2
theorem hx_codeSlot {post : Int32 → Prop} {s : Nat} (hsd : sd < 2) (I : hu_XT sd A n M R wt k W oc sw iz lz nd sn) (hs : s < A) (h : post (nI (hu_qs k M R wt s))) : wpX_codeSlot post (eA, eT, eC, rh, rc, pb, pc, ds, tb, tc, un, oc, sw, iz, lz, nd, sn, tx, tn, rg) (nI sd) (nI s) := by
  have hA := I.1.2.1
  have hM := hu_ro_M I.1
  unfold hu_qs at h
  by_cases c : wt s = 0
  · rw [if_pos c] at h
    refine ⟨pk_in _ 64 (by omega) (hx_32 sd s), nm_r (e' := nI 0) (by rw [hx_c32 hsd (by omega), hu_XT_lz0 I (by omega) c]; rfl) (br_t rfl ⟨vp_in_nI hsd (by omega), ?_⟩)⟩
    rw [nI_clamp (by omega), I.2.2.2.1, nI_pred]
    exact h
  · rw [if_neg c] at h
    have l := hu_XT_lz1 I (s := s) (by omega) c
    exact ⟨pk_in _ 64 (by omega) (hx_32 sd s), nm_r (e' := nI (hu_ls k M R s)) (by rw [hx_c32 hsd (by omega), l.1]) (br_f (nI_ne0 (by omega) (by omega)) h)⟩
theorem hx_floorLog_2 {post : Int32 → Prop} {u : Nat} (hu : u < 33) (hu1 : 1 ≤ u) (h : post (nI (hu_fl u))) : ∀ (d i f : Nat), i + d = hu_fl u → d < f → wX_floorLog_2 post (nI u) eA eT eC rh rc pb pc ds tb tc un oc sw iz lz nd sn tx tn rg f (nI i) := by
  have F := hu_fl_all u hu hu1
  intro d
  induction d with
  | zero =>
    intro i f hid hf
    obtain ⟨f, rfl⟩ : ∃ g, f = g + 1 := ⟨f - 1, by omega⟩
    have e : i = hu_fl u := by omega
    subst e
    have p64 : 2 ^ hu_fl u ≤ 2 ^ 5 := Nat.pow_le_pow_right (by decide) (by omega)
    refine br_f (nI_ge (b := 6) (by omega) (by omega)) ?_
    rw [hb_2shl (by omega)]
    exact br_t (nI_lt (by omega) (by omega)) h
  | succ d ih =>
    intro i f hid hf
    obtain ⟨f, rfl⟩ : ∃ g, f = g + 1 := ⟨f - 1, by omega⟩
    have p : 2 ^ (i + 1) ≤ 2 ^ hu_fl u := Nat.pow_le_pow_right (by decide) (by omega)
    rw [Nat.pow_succ] at p
    refine br_f (nI_ge (b := 6) (by omega) (by omega)) ?_
    rw [hb_2shl (by omega)]
    exact br_f (nI_nlt (by omega) (by omega)) (nm_r (nI_1 i) (ih (i + 1) f (by omega) (by omega)))
theorem hx_floorLog {post : Int32 → Prop} {u : Nat} (hu : u < 33) (hu1 : 1 ≤ u) (h : post (nI (hu_fl u))) : wpX_floorLog post (eA, eT, eC, rh, rc, pb, pc, ds, tb, tc, un, oc, sw, iz, lz, nd, sn, tx, tn, rg) (nI u) :=
  ⟨hu_fl u + 1, hx_floorLog_2 hu hu1 h (hu_fl u) 0 (hu_fl u + 1) (by omega) (by omega)⟩
theorem hx_unseenBelow_5 {post : Int32 → Prop} {s : Nat} (hsd : sd < 2) (I : hu_XT sd A n M R wt k W oc sw iz lz nd sn) (hs : s < A) (h : post (nI (hu_cz wt s))) :
    ∀ (d i f : Nat), i + d = s → d < f → wX_unseenBelow_5 post (nI sd) (nI s) eA eT eC rh rc pb pc ds tb tc un oc sw iz lz nd sn tx tn rg f (nI (hu_cz wt i)) (nI i) := by
  have hA := I.1.2.1
  have hM := hu_ro_M I.1
  intro d
  induction d with
  | zero =>
    intro i f hid hf
    obtain ⟨f, rfl⟩ : ∃ g, f = g + 1 := ⟨f - 1, by omega⟩
    have e : i = s := by omega
    subst e
    exact br_t (nI_le (Nat.le_refl _) (by omega)) h
  | succ d ih =>
    intro i f hid hf
    obtain ⟨f, rfl⟩ : ∃ g, f = g + 1 := ⟨f - 1, by omega⟩
    have nx := ih (i + 1) f (by omega) (by omega)
    have es : hu_cz wt (i + 1) = hu_cz wt i + (if wt i = 0 then 1 else 0) := rfl
    rw [es] at nx
    refine br_f (nI_ge (by omega) (by omega)) ⟨pk_in _ 64 (by omega) (hx_32 sd i), ?_⟩
    rw [hx_c32 hsd (by omega)]
    by_cases c : wt i = 0
    · rw [if_pos c] at nx
      exact br_t (hu_XT_lz0 I (by omega) c) (nm_r (nI_1 _) (nm_r (nI_1 i) nx))
    · rw [if_neg c] at nx
      have l := hu_XT_lz1 I (s := i) (by omega) c
      rw [l.1]
      exact br_f (nI_ne0 (by omega) (by omega)) (nm_r (nI_1 i) nx)
theorem hx_unseenBelow {post : Int32 → Prop} {s : Nat} (hsd : sd < 2) (I : hu_XT sd A n M R wt k W oc sw iz lz nd sn) (hs : s < A) (h : post (nI (hu_cz wt s))) : wpX_unseenBelow post (eA, eT, eC, rh, rc, pb, pc, ds, tb, tc, un, oc, sw, iz, lz, nd, sn, tx, tn, rg) (nI sd) (nI s) :=
  ⟨s + 1, hx_unseenBelow_5 hsd I hs h s 0 (s + 1) (by omega) (by omega)⟩
theorem hx_so2 {u : Nat} (hu : u < 33) (hu1 : 1 ≤ u) : (2 : Int32) <<< (nI (hu_fl u) &&& 31) - nI u = nI (hu_so2 u) := by
  have F := hu_fl_all u hu hu1
  rw [hb_2shl (by omega), pk_sub (by omega)]
  rfl
theorem hu_XT_u (I : hu_XT sd A n M R wt k W oc sw iz lz nd sn) : nI A - sn sd = nI (hu_cz wt A) := by
  have l := hu_cz_le wt A
  rw [I.2.2.2.2, pk_sub (by omega)]
  exact congrArg nI (by omega)
theorem hx_tailLength {post : Int32 → Prop} {s : Nat} (hsd : sd < 2) (I : hu_XT sd A n M R wt k W oc sw iz lz nd sn) (hs : s < A) (h : post (nI (hu_tn A wt s))) : wpX_tailLength post (nI A, eT, eC, rh, rc, pb, pc, ds, tb, tc, un, oc, sw, iz, lz, nd, sn, tx, tn, rg) (nI sd) (nI s) := by
  have hA := I.1.2.1
  have hM := hu_ro_M I.1
  refine ⟨pk_in _ 64 (by omega) (hx_32 sd s), ?_⟩
  rw [hx_c32 hsd (by omega)]
  unfold hu_tn at h
  by_cases c : wt s = 0
  · have l := hu_cz_lt hs c
    have le := hu_cz_le wt A
    have F := hu_fl_all (hu_cz wt A) (by omega) (by omega)
    rw [if_pos c] at h
    refine br_t (hu_XT_lz0 I (by omega) c) ⟨vp_in_nI hsd (by omega), nm_r (e' := nI (hu_cz wt A)) (by rw [nI_clamp (by omega), hu_XT_u I]) ?_⟩
    refine hx_floorLog (by omega) (by omega) (nm_r (hx_so2 (by omega) (by omega)) (hx_unseenBelow hsd I hs ?_))
    by_cases d : hu_cz wt s < hu_so2 (hu_cz wt A)
    · rw [if_pos d] at h
      exact br_f (nI_ge d (by omega)) h
    · rw [if_neg d] at h
      refine br_t (nI_le (by omega) (by omega)) ?_
      rw [nI_1]
      exact h
  · rw [if_neg c] at h
    have l := hu_XT_lz1 I (s := s) (by omega) c
    rw [l.1]
    exact br_f (nI_ne0 (by omega) (by omega)) h
theorem hx_tailValue {post : Int32 → Prop} {s : Nat} (hsd : sd < 2) (I : hu_XT sd A n M R wt k W oc sw iz lz nd sn) (hs : s < A) (h : post (nI (hu_tv A wt s))) : wpX_tailValue post (nI A, eT, eC, rh, rc, pb, pc, ds, tb, tc, un, oc, sw, iz, lz, nd, sn, tx, tn, rg) (nI sd) (nI s) := by
  have hA := I.1.2.1
  have hM := hu_ro_M I.1
  refine ⟨pk_in _ 64 (by omega) (hx_32 sd s), ?_⟩
  rw [hx_c32 hsd (by omega)]
  unfold hu_tv at h
  by_cases c : wt s = 0
  · have l := hu_cz_lt hs c
    have le := hu_cz_le wt A
    have F := hu_fl_all (hu_cz wt A) (by omega) (by omega)
    rw [if_pos c] at h
    refine br_t (hu_XT_lz0 I (by omega) c) ⟨vp_in_nI hsd (by omega), nm_r (e' := nI (hu_cz wt A)) (by rw [nI_clamp (by omega), hu_XT_u I]) ?_⟩
    refine hx_floorLog (by omega) (by omega) (nm_r (hx_so2 (by omega) (by omega)) (hx_unseenBelow hsd I hs ?_))
    by_cases d : hu_cz wt s < hu_so2 (hu_cz wt A)
    · rw [if_pos d] at h
      exact br_f (nI_ge d (by omega)) h
    · rw [if_neg d] at h
      refine br_t (nI_le (by omega) (by omega)) ?_
      rw [nI_add]
      exact h
  · rw [if_neg c] at h
    have l := hu_XT_lz1 I (s := s) (by omega) c
    rw [l.1]
    exact br_f (nI_ne0 (by omega) (by omega)) h
theorem hx_fullLength_18 {post : Int32 → Prop} {L : Nat} (hsd : sd < 2) (I : hu_XT sd A n M R wt k W oc sw iz lz nd sn) (h : post (nI L)) :
    ∀ (b q st l f : Nat), q ≤ b → q < 2 * M + 1 → l + hu_dl k M q = L → st + hu_dl k M q ≤ 40 → hu_dl k M q < f → wX_fullLength_18 post (nI sd) eA eT eC rh rc pb pc ds tb tc un oc sw iz lz nd sn tx tn rg f (nI q) (nI l) (nI st) := by
  have hM := hu_ro_M I.1
  have hs := I.2.1.1
  have hp := I.2.1.2.1
  have Z : ∀ (st l f : Nat), l = L → st ≤ 40 → 0 < f → wX_fullLength_18 post (nI sd) eA eT eC rh rc pb pc ds tb tc un oc sw iz lz nd sn tx tn rg f (nI 0) (nI l) (nI st) := by
    intro st l f e h1 hf
    obtain ⟨f, rfl⟩ : ∃ g, f = g + 1 := ⟨f - 1, by omega⟩
    subst e
    exact br_f (nI_ge (b := 72) (by omega) (by omega)) (br_t (nI_le (Nat.le_refl 0) (by decide)) h)
  intro b
  induction b with
  | zero =>
    intro q st l f hb hq e h1 hf
    have e0 : q = 0 := by omega
    subst e0
    rw [hu_dl_0] at e
    exact Z st l f e (by omega) (by omega)
  | succ b ih =>
    intro q st l f hb hq e h1 hf
    by_cases q0 : q = 0
    · subst q0
      rw [hu_dl_0] at e
      exact Z st l f e (by omega) (by omega)
    · obtain ⟨f, rfl⟩ : ∃ g, f = g + 1 := ⟨f - 1, by omega⟩
      have s := hu_pa_spec hs hp q0 hq
      have ds := (hu_d_s hs hp q0 hq).1
      refine br_f (nI_ge (b := 72) (by omega) (by omega)) (br_f (nI_nle (by omega) (by omega)) (nm_r (nI_1 l) ?_))
      refine hx_parent hsd (by omega) (by omega) (hu_XT_iz I q0 hq) (nm_r (nI_1 st) (ih (hu_pa k M q) (st + 1) (l + 1) f (by omega) (by omega) (by omega) (by omega) (by omega)))
theorem hx_fullLength {post : Int32 → Prop} {s : Nat} (hsd : sd < 2) (I : hu_XT sd A n M R wt k W oc sw iz lz nd sn) (hs : s < A) (h : post (nI (hu_cl A M k R wt s))) : wpX_fullLength post (nI A, eT, eC, rh, rc, pb, pc, ds, tb, tc, un, oc, sw, iz, lz, nd, sn, tx, tn, rg) (nI sd) (nI s) := by
  have hM := hu_ro_M I.1
  have q := hu_qs_spec I.1 I.2.1.1 I.2.1.2.1 hs
  have d := hu_dl_M I.2.1.1 I.2.1.2.1 q.1
  unfold wpX_fullLength
  refine hx_codeSlot hsd I hs ?_
  refine hx_tailLength hsd I hs ?_
  refine ⟨hu_dl k M (hu_qs k M R wt s) + 1, ?_⟩
  exact hx_fullLength_18 hsd I h _ _ 0 _ _ (Nat.le_refl _) q.1 (Nat.add_comm _ _) (by omega) (by omega)
theorem hb_or (a b : Nat) : nI a ||| nI b = nI (a ||| b) := by
  apply Int32.toBitVec_inj.1
  show BitVec.ofNat 32 a ||| BitVec.ofNat 32 b = BitVec.ofNat 32 (a ||| b)
  apply BitVec.eq_of_getLsbD_eq
  intro i hi
  simp [hi]
theorem hb_orD {a b i : Nat} (h : a < 2 ^ i) : nI a ||| nI (b * 2 ^ i) = nI (b * 2 ^ i + a) := by
  rw [hb_or, Nat.or_comm, Nat.mul_comm, ← Nat.two_pow_add_eq_or_of_lt h]
theorem hx_fullValue_26 {post : Int32 → Prop} {V : Nat} (hsd : sd < 2) (I : hu_XT sd A n M R wt k W oc sw iz lz nd sn) (h : post (nI V)) :
    ∀ (b q st sh v f : Nat), q ≤ b → q < 2 * M + 1 → hu_dv k M q * 2 ^ sh + v = V → v < 2 ^ sh → sh + hu_dl k M q ≤ 31 → st + hu_dl k M q ≤ 40 → hu_dl k M q < f → wX_fullValue_26 post (nI sd) eA eT eC rh rc pb pc ds tb tc un oc sw iz lz nd sn tx tn rg f (nI q) (nI sh) (nI v) (nI st) := by
  have hM := hu_ro_M I.1
  have hs := I.2.1.1
  have hp := I.2.1.2.1
  have Z : ∀ (st sh v f : Nat), v = V → st ≤ 40 → 0 < f → wX_fullValue_26 post (nI sd) eA eT eC rh rc pb pc ds tb tc un oc sw iz lz nd sn tx tn rg f (nI 0) (nI sh) (nI v) (nI st) := by
    intro st sh v f e h1 hf
    obtain ⟨f, rfl⟩ : ∃ g, f = g + 1 := ⟨f - 1, by omega⟩
    subst e
    exact br_f (nI_ge (b := 72) (by omega) (by omega)) (br_t (nI_le (Nat.le_refl 0) (by decide)) h)
  intro b
  induction b with
  | zero =>
    intro q st sh v f hb hq e h1 h2 h3 hf
    have e0 : q = 0 := by omega
    subst e0
    rw [hu_dv_0, Nat.zero_mul, Nat.zero_add] at e
    exact Z st sh v f e (by omega) (by omega)
  | succ b ih =>
    intro q st sh v f hb hq e h1 h2 h3 hf
    by_cases q0 : q = 0
    · subst q0
      rw [hu_dv_0, Nat.zero_mul, Nat.zero_add] at e
      exact Z st sh v f e (by omega) (by omega)
    · obtain ⟨f, rfl⟩ : ∃ g, f = g + 1 := ⟨f - 1, by omega⟩
      have s := hu_pa_spec hs hp q0 hq
      have ds := hu_d_s hs hp q0 hq
      have p31 : 2 ^ sh < 2 ^ 31 := Nat.pow_lt_pow_right (by decide) (by omega)
      have b2 : q % 2 * 2 ^ sh < 2 ^ 31 := by
        rcases (by omega : q % 2 = 0 ∨ q % 2 = 1) with c | c <;> rw [c] <;> omega
      have e1 : nI v ||| ((nI q &&& 1) <<< (nI sh &&& 31)) = nI (q % 2 * 2 ^ sh + v) := by
        rw [hb_and1 (by omega), hb_shl (by omega) b2, hb_orD h1]
      refine br_f (nI_ge (b := 72) (by omega) (by omega)) (br_f (nI_nle (by omega) (by omega)) (nm_r e1 (nm_r (nI_1 sh) ?_)))
      refine hx_parent hsd (by omega) (by omega) (hu_XT_iz I q0 hq) (nm_r (nI_1 st) (ih (hu_pa k M q) (st + 1) (sh + 1) _ f (by omega) (by omega) ?_ ?_ (by omega) (by omega) (by omega)))
      · rw [← e, ds.2, Nat.pow_succ, Nat.add_mul, Nat.mul_comm 2 (hu_dv k M (hu_pa k M q)), Nat.mul_assoc, Nat.mul_comm 2 (2 ^ sh)]
        omega
      · rw [Nat.pow_succ]
        rcases (by omega : q % 2 = 0 ∨ q % 2 = 1) with c | c <;> rw [c] <;> omega
theorem hx_fullValue {post : Int32 → Prop} {s : Nat} (hsd : sd < 2) (I : hu_XT sd A n M R wt k W oc sw iz lz nd sn) (hs : s < A) (h : post (nI (hu_cv A M k R wt s))) : wpX_fullValue post (nI A, eT, eC, rh, rc, pb, pc, ds, tb, tc, un, oc, sw, iz, lz, nd, sn, tx, tn, rg) (nI sd) (nI s) := by
  have hM := hu_ro_M I.1
  have q := hu_qs_spec I.1 I.2.1.1 I.2.1.2.1 hs
  have d := hu_dl_M I.2.1.1 I.2.1.2.1 q.1
  have l := (hu_cl_le I.1 I.2.1.1 I.2.1.2.1 hs).1
  have lu : hu_cl A M k R wt s = hu_dl k M (hu_qs k M R wt s) + hu_tn A wt s := rfl
  unfold wpX_fullValue
  refine hx_codeSlot hsd I hs ?_
  refine hx_tailLength hsd I hs ?_
  refine hx_tailValue hsd I hs ?_
  refine ⟨hu_dl k M (hu_qs k M R wt s) + 1, ?_⟩
  exact hx_fullValue_26 hsd I h _ _ 0 _ _ _ (Nat.le_refl _) q.1 rfl (hu_tv_lt I.1.2.1 hs) (by omega) (by omega) (by omega)
end
end
section
/-! the relation's pieces; a symbol appended -/
section
variable {sd A M n : Nat} {k R wt W : Nat → Nat}
variable {eA eT eC rh rc pb pc ds tb tc un : Int32} {oc sw iz lz nd sn tx tn rg : Nat → Int32}
/-- the decoder's place: an inner slot d, or E with g the q bits of the tail read -/
def hu_DS (A M : Nat) (R wt k : Nat → Nat) (d g q : Nat) : Prop :=
  d < 2 * M + 1 ∧ g < 2 ^ q ∧ ((k (d + 1) = k d + 1 ∧ q = 0) ∨ (k (d + 1) = k d ∧ R (d - k d) = 100 ∧ (q < hu_fl (hu_cz wt A) ∨ (q = hu_fl (hu_cz wt A) ∧ hu_so2 (hu_cz wt A) ≤ g))))
/-- the pure facts -/
def hu_PF (A T C c h d g q e n0 n1 M0 M1 : Nat) (t0 t1 b R0 w0 k0 W0 R1 w1 k1 W1 : Nat → Nat) : Prop :=
  T ≤ 256 ∧ C ≤ 256 ∧ c ≤ C ∧ h < 256 ∧ e < 2 ∧ n0 ≤ T ∧ n1 ≤ T ∧ hu_OK A n0 t0 ∧ hu_rp A t0 n0 = (M0, R0, w0) ∧ hu_OK A n1 t1 ∧ hu_rp A t1 n1 = (M1, R1, w1) ∧ (∀ i, i < c → b i < 2) ∧ hu_DS A M1 R1 w1 k1 d g q
/-- the component's arrays -/
def hu_XA (A c h n0 n1 M0 M1 : Nat) (t0 t1 b R0 w0 k0 W0 R1 w1 k1 W1 : Nat → Nat) (oc sw iz lz nd sn tx tn rg : Nat → Int32) : Prop :=
  hu_XT 0 A n0 M0 R0 w0 k0 W0 oc sw iz lz nd sn ∧ hu_XT 1 A n1 M1 R1 w1 k1 W1 oc sw iz lz nd sn ∧ tn 0 = nI n0 ∧ tn 1 = nI n1
  ∧ (∀ i, i < n0 → tx (0 * 256 + i) = nI (t0 i)) ∧ (∀ i, i < n1 → tx (1 * 256 + i) = nI (t1 i)) ∧ (∀ i, i < c → rg ((h + i) % 256) = nI (b i))
/-- the reference's arrays -/
def hu_YA (c P l n0 n1 : Nat) (t0 t1 b : Nat → Nat) (ty tl ch pt : Nat → Int32) : Prop :=
  tl 0 = nI n0 ∧ tl 1 = nI n1 ∧ (∀ i, i < n0 → ty (0 * 256 + i) = nI (t0 i)) ∧ (∀ i, i < n1 → ty (1 * 256 + i) = nI (t1 i)) ∧ (∀ i, i < c → ch i = nI (b i)) ∧ hu_BT P l pt
theorem hu_XT_fr {sd' : Nat} {oc' sw' iz' lz' nd' sn' : Nat → Int32} (I : hu_XT sd' A n M R wt k W oc sw iz lz nd sn) (f : hu_fr sd oc sw iz lz oc' sw' iz' lz') (g : ∀ i, i ≠ sd → nd' i = nd i ∧ sn' i = sn i) (hne : sd' ≠ sd) :
    hu_XT sd' A n M R wt k W oc' sw' iz' lz' nd' sn' := by
  obtain ⟨hr, hc, t, h1, h2⟩ := I
  have m := hu_ro_M hr
  exact ⟨hr, hc, hu_fr_TX f hne (by omega) hc.1 t, by rw [(g sd' hne).1, h1], by rw [(g sd' hne).2, h2]⟩
theorem hb_byte : ∀ s, s < 128 → (nI s).toInt8.toInt32 = nI s := by decide +kernel
theorem hb_nar {s : Nat} (h : s < 128) : vp_nar .byte (nI s).toInt8.toInt32 = nI s := by rw [pk_vb, hb_byte s h]
theorem hx_append {post : SX → Prop} {s : Nat} (hsd : sd < 2) (I : hu_XT sd A n M R wt k W oc sw iz lz nd sn) (htn : tn sd = nI n) (hn : n < 256) (hs : s < A)
    (K : ∀ (k' W' : Nat → Nat) (oc' sw' iz' lz' nd' sn' : Nat → Int32), hu_XT sd A (n + 1) (hu_us A (M, R, wt) s).1 (hu_us A (M, R, wt) s).2.1 (hu_us A (M, R, wt) s).2.2 k' W' oc' sw' iz' lz' nd' sn' → hu_fr sd oc sw iz lz oc' sw' iz' lz' →
      (∀ i, i ≠ sd → nd' i = nd i ∧ sn' i = sn i) → post (nI A, eT, eC, rh, rc, pb, pc, ds, tb, tc, un, oc', sw', iz', lz', nd', sn', upd tx (sd * 256 + n) (nI s), upd tn sd (nI (n + 1)), rg)) :
    wpX_appendSymbol post (nI A, eT, eC, rh, rc, pb, pc, ds, tb, tc, un, oc, sw, iz, lz, nd, sn, tx, tn, rg) (nI sd) (nI s) := by
  have hA := I.1.2.1
  have csd : (nI sd).toNatClampNeg = sd := nI_clamp (by omega)
  have in2 : vp_in (nI sd) 2 := vp_in_nI hsd (by omega)
  have e : nI sd * 256 + tn sd = nI (sd * 256 + n) := by rw [htn, hx_256]
  refine ⟨in2, ?_⟩
  rw [csd]
  refine ⟨pk_in _ 512 (by omega) e, nm_r (e' := upd tx (sd * 256 + n) (nI s)) (by rw [e, nI_clamp (by omega), hb_nar (by omega)]) ⟨in2, in2, nm_r (e' := upd tn sd (nI (n + 1))) (by rw [htn, nI_1]) ?_⟩⟩
  exact hx_update hsd (by omega) I hs K
theorem hu_OK_app {s : Nat} {t : Nat → Nat} (ok : hu_OK A n t) (hs : s < A) (e : hu_rp A t n = (M, R, wt)) {k' W' : Nat → Nat} (r : hu_ro A (hu_us A (M, R, wt) s).1 (hu_us A (M, R, wt) s).2.1 (hu_us A (M, R, wt) s).2.2)
    (c : hu_CI (hu_us A (M, R, wt) s).1 (hu_us A (M, R, wt) s).2.1 (hu_us A (M, R, wt) s).2.2 k' W' 0 (n + 1)) :
    hu_OK A (n + 1) (hu_up t n s) ∧ hu_rp A (hu_up t n s) (n + 1) = hu_us A (M, R, wt) s := by
  have sm : ∀ i, i ≤ n → hu_rp A (hu_up t n s) i = hu_rp A t i := fun i hi => hu_rp_same A i (fun j hj => hu_up_n (by omega))
  have en : hu_rp A (hu_up t n s) (n + 1) = hu_us A (M, R, wt) s := by
    show hu_us A (hu_rp A (hu_up t n s) n) (hu_up t n s n) = _
    rw [sm n (Nat.le_refl _), e, hu_up_s]
  refine ⟨⟨fun i hi => ?_, fun i hi => ?_⟩, en⟩
  · by_cases c : i = n
    · rw [c, hu_up_s]; exact hs
    · rw [hu_up_n c]; exact ok.1 i (by omega)
  · by_cases c2 : i = n + 1
    · subst c2
      rw [en]
      exact ⟨k', W', r, c⟩
    · rw [sm i (by omega)]
      exact ok.2 i (by omega)
theorem hu_txt {t : Nat → Nat} {x : Nat → Int32} {s B : Nat} (h : ∀ i, i < n → x (B + i) = nI (t i)) : ∀ i, i < n + 1 → upd x (B + n) (nI s) (B + i) = nI (hu_up t n s i) := by
  intro i hi
  by_cases c : i = n
  · rw [c, pk_us, hu_up_s]
  · rw [pk_un (by omega), hu_up_n c]
    exact h i (by omega)
/-- a symbol on side 0 -/
theorem hx_app0 {post : SX → Prop} {s c h n0 n1 M0 M1 : Nat} {t0 t1 b R0 w0 k0 W0 R1 w1 k1 W1 : Nat → Nat} (X : hu_XA A c h n0 n1 M0 M1 t0 t1 b R0 w0 k0 W0 R1 w1 k1 W1 oc sw iz lz nd sn tx tn rg) (hn : n0 < 256) (hs : s < A)
    (K : ∀ (k' W' : Nat → Nat) (oc' sw' iz' lz' nd' sn' tx' tn' : Nat → Int32), hu_XA A c h (n0 + 1) n1 (hu_us A (M0, R0, w0) s).1 M1 (hu_up t0 n0 s) t1 b (hu_us A (M0, R0, w0) s).2.1 (hu_us A (M0, R0, w0) s).2.2 k' W' R1 w1 k1 W1 oc' sw' iz' lz' nd' sn' tx' tn' rg →
      post (nI A, eT, eC, rh, rc, pb, pc, ds, tb, tc, un, oc', sw', iz', lz', nd', sn', tx', tn', rg)) : wpX_appendSymbol post (nI A, eT, eC, rh, rc, pb, pc, ds, tb, tc, un, oc, sw, iz, lz, nd, sn, tx, tn, rg) 0 (nI s) := by
  obtain ⟨x1, x2, x3, x4, x5, x6, x7⟩ := X
  refine hx_append (sd := 0) (by omega) x1 x3 hn hs ?_
  intro k' W' oc' sw' iz' lz' nd' sn' a1 a2 a3
  refine K k' W' oc' sw' iz' lz' nd' sn' _ _ ⟨a1, hu_XT_fr x2 a2 a3 (by omega), pk_us, ?_, hu_txt x5, ?_, x7⟩
  · rw [pk_un (by omega)]; exact x4
  · intro i hi
    rw [pk_un (by omega)]; exact x6 i hi
/-- a symbol on side 1 -/
theorem hx_app1 {post : SX → Prop} {s c h n0 n1 M0 M1 : Nat} {t0 t1 b R0 w0 k0 W0 R1 w1 k1 W1 : Nat → Nat} (X : hu_XA A c h n0 n1 M0 M1 t0 t1 b R0 w0 k0 W0 R1 w1 k1 W1 oc sw iz lz nd sn tx tn rg) (hn : n1 < 256) (hn0 : n0 ≤ 256) (hs : s < A)
    (K : ∀ (k' W' : Nat → Nat) (oc' sw' iz' lz' nd' sn' tx' tn' : Nat → Int32), hu_XA A c h n0 (n1 + 1) M0 (hu_us A (M1, R1, w1) s).1 t0 (hu_up t1 n1 s) b R0 w0 k0 W0 (hu_us A (M1, R1, w1) s).2.1 (hu_us A (M1, R1, w1) s).2.2 k' W' oc' sw' iz' lz' nd' sn' tx' tn' rg →
      post (nI A, eT, eC, rh, rc, pb, pc, ds, tb, tc, un, oc', sw', iz', lz', nd', sn', tx', tn', rg)) : wpX_appendSymbol post (nI A, eT, eC, rh, rc, pb, pc, ds, tb, tc, un, oc, sw, iz, lz, nd, sn, tx, tn, rg) 1 (nI s) := by
  obtain ⟨x1, x2, x3, x4, x5, x6, x7⟩ := X
  refine hx_append (sd := 1) (by omega) x2 x4 hn hs ?_
  intro k' W' oc' sw' iz' lz' nd' sn' a1 a2 a3
  refine K k' W' oc' sw' iz' lz' nd' sn' _ _ ⟨hu_XT_fr x1 a2 a3 (by omega), a1, ?_, pk_us, ?_, hu_txt x6, x7⟩
  · rw [pk_un (by omega)]; exact x3
  · intro i hi
    rw [pk_un (by omega)]; exact x5 i hi
end
section
variable {A : Nat}
variable {yA yT yC cl pl cf rl no co : Int32} {ty tl ch pt we ro wh hv pr iw cd : Nat → Int32}
theorem hy_app0 {post : SY → Prop} {s c P l n0 n1 : Nat} {t0 t1 b : Nat → Nat} (Y : hu_YA c P l n0 n1 t0 t1 b ty tl ch pt) (hn : n0 < 256)
    (K : ∀ (ty' tl' : Nat → Int32), hu_YA c P l (n0 + 1) n1 (hu_up t0 n0 s) t1 b ty' tl' ch pt → post (yA, yT, yC, cl, pl, cf, rl, no, co, ty', tl', ch, pt, we, ro, wh, hv, pr, iw, cd)) : wpY_append post (yA, yT, yC, cl, pl, cf, rl, no, co, ty, tl, ch, pt, we, ro, wh, hv, pr, iw, cd) 0 (nI s) := by
  obtain ⟨x1, x2, x3, x4, x5, x6⟩ := Y
  have in2 : vp_in (0 : Int32) 2 := vp_in_nI (n := 0) (by omega) (by omega)
  have e : (0 : Int32) * 256 + tl 0 = nI (0 * 256 + n0) := by rw [x1]; exact hx_256 0 n0
  refine ⟨in2, ?_⟩
  rw [show (0 : Int32).toNatClampNeg = 0 from rfl]
  refine ⟨pk_in _ 512 (by omega) e, nm_r (e' := upd ty (0 * 256 + n0) (nI s)) (by rw [e, nI_clamp (by omega)]) ⟨in2, in2, nm_r (e' := upd tl 0 (nI (n0 + 1))) (by rw [x1, nI_1]) ?_⟩⟩
  refine K _ _ ⟨pk_us, ?_, hu_txt x3, ?_, x5, x6⟩
  · rw [pk_un (by omega)]; exact x2
  · intro i hi
    rw [pk_un (by omega)]; exact x4 i hi
theorem hy_app1 {post : SY → Prop} {s c P l n0 n1 : Nat} {t0 t1 b : Nat → Nat} (Y : hu_YA c P l n0 n1 t0 t1 b ty tl ch pt) (hn : n1 < 256) (hn0 : n0 ≤ 256)
    (K : ∀ (ty' tl' : Nat → Int32), hu_YA c P l n0 (n1 + 1) t0 (hu_up t1 n1 s) b ty' tl' ch pt → post (yA, yT, yC, cl, pl, cf, rl, no, co, ty', tl', ch, pt, we, ro, wh, hv, pr, iw, cd)) : wpY_append post (yA, yT, yC, cl, pl, cf, rl, no, co, ty, tl, ch, pt, we, ro, wh, hv, pr, iw, cd) 1 (nI s) := by
  obtain ⟨x1, x2, x3, x4, x5, x6⟩ := Y
  have in2 : vp_in (1 : Int32) 2 := vp_in_nI (n := 1) (by omega) (by omega)
  have e : (1 : Int32) * 256 + tl 1 = nI (1 * 256 + n1) := by rw [x2]; exact hx_256 1 n1
  refine ⟨in2, ?_⟩
  rw [show (1 : Int32).toNatClampNeg = 1 from rfl]
  refine ⟨pk_in _ 512 (by omega) e, nm_r (e' := upd ty (1 * 256 + n1) (nI s)) (by rw [e, nI_clamp (by omega)]) ⟨in2, in2, nm_r (e' := upd tl 1 (nI (n1 + 1))) (by rw [x2, nI_1]) ?_⟩⟩
  refine K _ _ ⟨?_, pk_us, ?_, hu_txt x4, x5, x6⟩
  · rw [pk_un (by omega)]; exact x1
  · intro i hi
    rw [pk_un (by omega)]; exact x3 i hi
end
end
section
/-! send -/
section
def hu_bb (c L V : Nat) (b : Nat → Nat) : Nat → Nat := fun i => if i < c then b i else V / 2 ^ (L - 1 - (i - c)) % 2
theorem hu_bb_lt {c L V : Nat} {b : Nat → Nat} (h : ∀ i, i < c → b i < 2) : ∀ i, hu_bb c L V b i < 2 := by
  intro i
  unfold hu_bb
  by_cases d : i < c
  · rw [if_pos d]; exact h i d
  · rw [if_neg d]; exact Nat.mod_lt _ (by omega)
variable {A T C c h n0 n1 M0 M1 s : Nat} {t0 t1 b R0 w0 k0 W0 R1 w1 k1 W1 : Nat → Nat}
variable {eA eT eC rh rc pb pc ds tb tc un : Int32} {oc sw iz lz nd sn tx tn rg : Nat → Int32}
theorem hx_badSymbol_ok {post : Int32 → Prop} (hA : A ≤ 32) (hs : s < A) (H : post 0) : wpX_badSymbol post (nI A, eT, eC, rh, rc, pb, pc, ds, tb, tc, un, oc, sw, iz, lz, nd, sn, tx, tn, rg) (nI s) := br_f (nI_pos (by omega)) (br_t (nI_lt hs (by omega)) H)
theorem hx_badSymbol_no {post : Int32 → Prop} {x : Int32} (hx : x < 0 ∨ nI A ≤ x) (H : post 1) : wpX_badSymbol post (nI A, eT, eC, rh, rc, pb, pc, ds, tb, tc, un, oc, sw, iz, lz, nd, sn, tx, tn, rg) x := by
  by_cases d : x < 0
  · exact br_t d H
  · rcases hx with y | y
    · exact absurd y d
    · exact br_f d (br_f (Int32.not_lt.mpr y) H)
theorem hb_255 {v : Nat} (hv : v < 2 ^ 31) : nI v &&& 255 = nI (v % 256) := pk_andN (by omega) 8 (by decide)
theorem hx_appendBit {post : SX → Prop} {bit : Nat} (hh : h < 256) (hc : c < 1000) (hb : bit < 2) (H : post (eA, eT, eC, nI h, nI (c + 1), pb, pc, ds, tb, tc, un, oc, sw, iz, lz, nd, sn, tx, tn, upd rg ((h + c) % 256) (nI bit))) : wpX_appendBit post (eA, eT, eC, nI h, nI c, pb, pc, ds, tb, tc, un, oc, sw, iz, lz, nd, sn, tx, tn, rg) (nI bit) := by
  have e : (nI h + nI c) &&& 255 = nI ((h + c) % 256) := by rw [nI_add, hb_255 (by omega)]
  exact ⟨pk_in _ 256 (by omega) e, nm_r (e' := upd rg ((h + c) % 256) (nI bit)) (by rw [e, nI_clamp (by omega), hb_nar (by omega)]) (nm_r (nI_1 c) H)⟩
theorem hx_send_61 {post : Int32 → SX → Prop} {V L : Nat} (hV : V < 2 ^ 31) (hL : L ≤ 31) (hh : h < 256) (hcL : c + L ≤ 256)
    (K : ∀ rg' : Nat → Int32, (∀ i, i < c + L → rg' ((h + i) % 256) = nI (hu_bb c L V b i)) → wpX_appendSymbol (fun u => post (nI L) u) (eA, eT, eC, nI h, nI (c + L), pb, pc, ds, tb, tc, un, oc, sw, iz, lz, nd, sn, tx, tn, rg') 0 (nI s)) :
    ∀ (j f : Nat) (rg : Nat → Int32), j ≤ L → j < f → (∀ i, i < c + (L - j) → rg ((h + i) % 256) = nI (hu_bb c L V b i)) → wX_send_61 post (nI s) (nI L) (nI V) f (nI j - 1) eA eT eC (nI h) (nI (c + (L - j))) pb pc ds tb tc un oc sw iz lz nd sn tx tn rg := by
  intro j
  induction j with
  | zero =>
    intro f rg hj hf H
    obtain ⟨f, rfl⟩ : ∃ g, f = g + 1 := ⟨f - 1, by omega⟩
    exact br_t hx_neg (K rg H)
  | succ j ih =>
    intro f rg hj hf H
    obtain ⟨f, rfl⟩ : ∃ g, f = g + 1 := ⟨f - 1, by omega⟩
    rw [nI_pred]
    refine br_f (nI_pos (by omega)) ?_
    rw [hb_bit hV (by omega)]
    refine hx_appendBit hh (by omega) (Nat.mod_lt _ (by omega)) (nm_r (hx_m1 _) ?_)
    have e : c + (L - (j + 1)) + 1 = c + (L - j) := by omega
    rw [e]
    refine ih f _ (by omega) (by omega) ?_
    intro i hi
    by_cases d : i = c + (L - (j + 1))
    · rw [d, pk_us]
      unfold hu_bb
      have e2 : L - 1 - (c + (L - (j + 1)) - c) = j := by omega
      rw [if_neg (by omega), e2]
    · rw [pk_un (by omega)]
      exact H i (by omega)
theorem hx_send_full {post : Int32 → SX → Prop} (X : hu_XA A c h n0 n1 M0 M1 t0 t1 b R0 w0 k0 W0 R1 w1 k1 W1 oc sw iz lz nd sn tx tn rg) (hT : T ≤ 256) (hn : T ≤ n0) (hn2 : n0 ≤ 256) (hs : s < A)
    (K : post (-2) (nI A, nI T, eC, rh, rc, pb, pc, ds, tb, tc, un, oc, sw, iz, lz, nd, sn, tx, tn, rg)) : wpX_send post (nI A, nI T, eC, rh, rc, pb, pc, ds, tb, tc, un, oc, sw, iz, lz, nd, sn, tx, tn, rg) (nI s) := by
  unfold wpX_send
  refine hx_badSymbol_ok X.1.1.2.1 hs ?_
  refine br_t rfl ?_
  rw [X.2.2.1]
  exact br_f (nI_nlt hn (by omega)) K
theorem hx_send_room {post : Int32 → SX → Prop} (X : hu_XA A c h n0 n1 M0 M1 t0 t1 b R0 w0 k0 W0 R1 w1 k1 W1 oc sw iz lz nd sn tx tn rg) (hT : T ≤ 256) (hn : n0 < T) (hs : s < A) (hC : C ≤ 256) (hc : c ≤ C) (hL : C < c + hu_cl A M0 k0 R0 w0 s)
    (K : post (-3) (nI A, nI T, nI C, rh, nI c, pb, pc, ds, tb, tc, un, oc, sw, iz, lz, nd, sn, tx, tn, rg)) : wpX_send post (nI A, nI T, nI C, rh, nI c, pb, pc, ds, tb, tc, un, oc, sw, iz, lz, nd, sn, tx, tn, rg) (nI s) := by
  have l := (hu_cl_le X.1.1 X.1.2.1.1 X.1.2.1.2.1 hs).1
  unfold wpX_send
  refine hx_badSymbol_ok X.1.1.2.1 hs ?_
  refine br_t rfl ?_
  rw [X.2.2.1]
  refine br_t (nI_lt hn (by omega)) ?_
  refine hx_fullLength (sd := 0) (by omega) X.1 hs ?_
  rw [nI_add]
  exact br_f (nI_ge hL (by omega)) K
theorem hx_send_ok {post : Int32 → SX → Prop} (X : hu_XA A c h n0 n1 M0 M1 t0 t1 b R0 w0 k0 W0 R1 w1 k1 W1 oc sw iz lz nd sn tx tn rg) (hT : T ≤ 256) (hn : n0 < T) (hs : s < A) (hC : C ≤ 256) (hh : h < 256) (hL : c + hu_cl A M0 k0 R0 w0 s ≤ C)
    (K : ∀ (k' W' : Nat → Nat) (oc' sw' iz' lz' nd' sn' tx' tn' rg' : Nat → Int32), hu_XA A (c + hu_cl A M0 k0 R0 w0 s) h (n0 + 1) n1 (hu_us A (M0, R0, w0) s).1 M1 (hu_up t0 n0 s) t1 (hu_bb c (hu_cl A M0 k0 R0 w0 s) (hu_cv A M0 k0 R0 w0 s) b) (hu_us A (M0, R0, w0) s).2.1 (hu_us A (M0, R0, w0) s).2.2 k' W' R1 w1 k1 W1 oc' sw' iz' lz' nd' sn' tx' tn' rg' →
      post (nI (hu_cl A M0 k0 R0 w0 s)) (nI A, nI T, nI C, nI h, nI (c + hu_cl A M0 k0 R0 w0 s), pb, pc, ds, tb, tc, un, oc', sw', iz', lz', nd', sn', tx', tn', rg')) :
    wpX_send post (nI A, nI T, nI C, nI h, nI c, pb, pc, ds, tb, tc, un, oc, sw, iz, lz, nd, sn, tx, tn, rg) (nI s) := by
  have l := (hu_cl_le X.1.1 X.1.2.1.1 X.1.2.1.2.1 hs).1
  have v := hu_cv_lt X.1.1 X.1.2.1.1 X.1.2.1.2.1 hs
  have v31 := Nat.lt_of_lt_of_le v (hu_pw31 l)
  unfold wpX_send
  refine hx_badSymbol_ok X.1.1.2.1 hs ?_
  refine br_t rfl ?_
  rw [X.2.2.1]
  refine br_t (nI_lt hn (by omega)) ?_
  refine hx_fullLength (sd := 0) (by omega) X.1 hs ?_
  rw [nI_add]
  refine br_t (nI_le hL (by omega)) ?_
  refine hx_fullValue (sd := 0) (by omega) X.1 hs ?_
  refine nm_r (e' := nI (hu_cl A M0 k0 R0 w0 s) - 1) rfl ⟨hu_cl A M0 k0 R0 w0 s + 1, ?_⟩
  have x := hx_send_61 (post := post) (c := c) (b := b) (s := s) (eA := nI A) (eT := nI T) (eC := nI C) (pb := pb) (pc := pc) (ds := ds) (tb := tb) (tc := tc) (un := un) (oc := oc) (sw := sw) (iz := iz) (lz := lz) (nd := nd) (sn := sn) (tx := tx) (tn := tn) v31 l hh (by omega) ?_ (hu_cl A M0 k0 R0 w0 s) (hu_cl A M0 k0 R0 w0 s + 1) rg (Nat.le_refl _) (by omega) ?_
  · rw [Nat.sub_self] at x
    exact x
  · intro rg' hrg
    refine hx_app0 (c := c + hu_cl A M0 k0 R0 w0 s) (h := h) (b := hu_bb c (hu_cl A M0 k0 R0 w0 s) (hu_cv A M0 k0 R0 w0 s) b) ⟨X.1, X.2.1, X.2.2.1, X.2.2.2.1, X.2.2.2.2.1, X.2.2.2.2.2.1, hrg⟩ (by omega) hs ?_
    intro k' W' oc' sw' iz' lz' nd' sn' tx' tn' X'
    exact K k' W' oc' sw' iz' lz' nd' sn' tx' tn' rg' X'
  · intro i hi
    unfold hu_bb
    rw [if_pos (by omega)]
    exact X.2.2.2.2.2.2 i (by omega)
end
section
variable {A T C c n0 n1 M0 s P l : Nat} {t0 t1 b R0 w0 k0 W0 : Nat → Nat}
variable {yA yT yC cl pl cf rl no co : Int32} {ty tl ch pt we ro wh hv pr iw cd : Nat → Int32}
theorem hy_badSymbol_ok {post : Int32 → Prop} (hA : A ≤ 32) (hs : s < A) (H : post 0) : wpY_badSymbol post (nI A, yT, yC, cl, pl, cf, rl, no, co, ty, tl, ch, pt, we, ro, wh, hv, pr, iw, cd) (nI s) := br_f (nI_pos (by omega)) (br_t (nI_lt hs (by omega)) H)
theorem hy_badSymbol_no {post : Int32 → Prop} {x : Int32} (hx : x < 0 ∨ nI A ≤ x) (H : post 1) : wpY_badSymbol post (nI A, yT, yC, cl, pl, cf, rl, no, co, ty, tl, ch, pt, we, ro, wh, hv, pr, iw, cd) x := by
  by_cases d : x < 0
  · exact br_t d H
  · rcases hx with y | y
    · exact absurd y d
    · exact br_f d (br_f (Int32.not_lt.mpr y) H)
theorem hy_send_57 {post : Int32 → SY → Prop} {V L : Nat} (hL : L ≤ 31) (hcL : c + L ≤ 256) (hbt : hu_BT V L cd)
    (K : ∀ ch' : Nat → Int32, (∀ i, i < c + L → ch' i = nI (hu_bb c L V b i)) → wpY_append (fun u => match u with | (_, _, _, _, _, _, _, _, x, _, _, _, _, _, _, _, _, _, _, _) => post x u) (yA, yT, yC, nI (c + L), pl, cf, rl, no, nI L, ty, tl, ch', pt, we, ro, wh, hv, pr, iw, cd) 0 (nI s)) :
    ∀ (d i f : Nat) (ch : Nat → Int32), i + d = L → d < f → (∀ j, j < c + i → ch j = nI (hu_bb c L V b j)) → wY_send_57 post (nI s) yA yT yC pl cf rl no (nI L) f (nI i) (nI (c + i)) ty tl ch pt we ro wh hv pr iw cd := by
  intro d
  induction d with
  | zero =>
    intro i f ch hid hf H
    obtain ⟨f, rfl⟩ : ∃ g, f = g + 1 := ⟨f - 1, by omega⟩
    have e : i = L := by omega
    subst e
    exact br_t (nI_le (Nat.le_refl _) (by omega)) (K ch H)
  | succ d ih =>
    intro i f ch hid hf H
    obtain ⟨f, rfl⟩ : ∃ g, f = g + 1 := ⟨f - 1, by omega⟩
    refine br_f (nI_ge (by omega) (by omega)) ⟨vp_in_nI (by omega) (by omega), vp_in_nI (by omega) (by omega), nm_r (e' := upd ch (c + i) (nI (V / 2 ^ (L - 1 - i) % 2))) (by rw [nI_clamp (by omega), nI_clamp (by omega), hbt i (by omega)]) (nm_r (nI_1 (c + i)) (nm_r (nI_1 i) (ih (i + 1) f _ (by omega) (by omega) ?_)))⟩
    intro j hj
    by_cases e : j = c + i
    · rw [e, pk_us]
      unfold hu_bb
      have e2 : c + i - c = i := by omega
      rw [if_neg (by omega), e2]
    · rw [pk_un e]
      exact H j (by omega)
theorem hy_send_full {post : Int32 → SY → Prop} (Y : hu_YA c P l n0 n1 t0 t1 b ty tl ch pt) (hA : A ≤ 32) (hT : T ≤ 256) (hn : T ≤ n0) (hn2 : n0 ≤ 256) (hs : s < A)
    (K : post (-2) (nI A, nI T, yC, cl, pl, cf, rl, no, co, ty, tl, ch, pt, we, ro, wh, hv, pr, iw, cd)) : wpY_send post (nI A, nI T, yC, cl, pl, cf, rl, no, co, ty, tl, ch, pt, we, ro, wh, hv, pr, iw, cd) (nI s) := by
  unfold wpY_send
  refine hy_badSymbol_ok hA hs ?_
  refine br_t rfl ?_
  rw [Y.1]
  exact br_f (nI_nlt hn (by omega)) K
theorem hu_wt20 {tx : Nat → Nat} {n M : Nat} {R wt : Nat → Nat} (hn : n ≤ 256) (e : hu_rp A tx n = (M, R, wt)) : ∀ x, wt x < 2 ^ 20 := by
  intro x
  have y := hu_rp_wt A tx n x
  rw [e] at y
  have z : (M, R, wt).2.2 x = wt x := rfl
  omega
theorem hy_send_room {post : Int32 → SY → Prop} (Y : hu_YA c P l n0 n1 t0 t1 b ty tl ch pt) (ok : hu_OK A n0 t0) (erp : hu_rp A t0 n0 = (M0, R0, w0)) (hr : hu_ro A M0 R0 w0) (hci : hu_CI M0 R0 w0 k0 W0 0 n0) (hT : T ≤ 256) (hn : n0 < T) (hs : s < A) (hC : C ≤ 256) (hc : c ≤ C) (hL : C < c + hu_cl A M0 k0 R0 w0 s)
    (K : ∀ (rl' no' co' : Int32) (we' ro' wh' hv' pr' iw' cd' : Nat → Int32), post (-3) (nI A, nI T, nI C, nI c, pl, cf, rl', no', co', ty, tl, ch, pt, we', ro', wh', hv', pr', iw', cd')) : wpY_send post (nI A, nI T, nI C, nI c, pl, cf, rl, no, co, ty, tl, ch, pt, we, ro, wh, hv, pr, iw, cd) (nI s) := by
  have lb := (hu_cl_le hr hci.1 hci.2.1 hs).1
  unfold wpY_send
  refine hy_badSymbol_ok hr.2.1 hs ?_
  refine br_t rfl ?_
  rw [Y.1]
  refine br_t (nI_lt hn (by omega)) ?_
  refine hy_load (sd := 0) (by omega) (by omega) ok Y.1 Y.2.2.1 erp hr hci ?_
  intro we' ro' wh' hv' pr' iw' yr np
  refine hy_make hr hci (hu_wt20 (by omega) erp) yr np hs ?_
  intro cd' bt
  dsimp only
  rw [nI_add]
  exact br_f (nI_ge hL (by omega)) (K _ _ _ _ _ _ _ _ _ _)
theorem hy_send_ok {post : Int32 → SY → Prop} (Y : hu_YA c P l n0 n1 t0 t1 b ty tl ch pt) (ok : hu_OK A n0 t0) (erp : hu_rp A t0 n0 = (M0, R0, w0)) (hr : hu_ro A M0 R0 w0) (hci : hu_CI M0 R0 w0 k0 W0 0 n0) (hT : T ≤ 256) (hn : n0 < T) (hs : s < A) (hC : C ≤ 256) (hL : c + hu_cl A M0 k0 R0 w0 s ≤ C)
    (K : ∀ (rl' no' co' : Int32) (ty' tl' ch' we' ro' wh' hv' pr' iw' cd' : Nat → Int32), hu_YA (c + hu_cl A M0 k0 R0 w0 s) P l (n0 + 1) n1 (hu_up t0 n0 s) t1 (hu_bb c (hu_cl A M0 k0 R0 w0 s) (hu_cv A M0 k0 R0 w0 s) b) ty' tl' ch' pt →
      post (nI (hu_cl A M0 k0 R0 w0 s)) (nI A, nI T, nI C, nI (c + hu_cl A M0 k0 R0 w0 s), pl, cf, rl', no', co', ty', tl', ch', pt, we', ro', wh', hv', pr', iw', cd')) :
    wpY_send post (nI A, nI T, nI C, nI c, pl, cf, rl, no, co, ty, tl, ch, pt, we, ro, wh, hv, pr, iw, cd) (nI s) := by
  have lb := (hu_cl_le hr hci.1 hci.2.1 hs).1
  unfold wpY_send
  refine hy_badSymbol_ok hr.2.1 hs ?_
  refine br_t rfl ?_
  rw [Y.1]
  refine br_t (nI_lt hn (by omega)) ?_
  refine hy_load (sd := 0) (by omega) (by omega) ok Y.1 Y.2.2.1 erp hr hci ?_
  intro we' ro' wh' hv' pr' iw' yr np
  refine hy_make hr hci (hu_wt20 (by omega) erp) yr np hs ?_
  intro cd' bt
  dsimp only
  rw [nI_add]
  refine br_t (nI_le hL (by omega)) ⟨hu_cl A M0 k0 R0 w0 s + 1, ?_⟩
  refine hy_send_57 (b := b) lb (by omega) bt ?_ (hu_cl A M0 k0 R0 w0 s) 0 _ ch (by omega) (by omega) ?_
  · intro ch' hch
    refine hy_app0 (c := c + hu_cl A M0 k0 R0 w0 s) (P := P) (l := l) (b := hu_bb c (hu_cl A M0 k0 R0 w0 s) (hu_cv A M0 k0 R0 w0 s) b) ⟨Y.1, Y.2.1, Y.2.2.1, Y.2.2.2.1, hch, Y.2.2.2.2.2⟩ (by omega) ?_
    intro ty' tl' Y'
    exact K _ _ _ ty' tl' ch' _ _ _ _ _ _ _ Y'
  · intro i hi
    unfold hu_bb
    rw [if_pos (by omega)]
    exact Y.2.2.2.2.1 i (by omega)
end
end
section
/-! decoding, pure -/
section
variable {A M n : Nat} {k R wt W : Nat → Nat}
theorem hu_match (hr : hu_ro A M R wt) (h : hu_sh M k) (hp : hu_ps M k) {s d g q : Nat} (hs : s < A) (hd : d < 2 * M + 1) (hg : g < 2 ^ q) (hq : q = 0 ∨ k (d + 1) = k d)
    (e1 : hu_cl A M k R wt s = hu_dl k M d + q) (e2 : hu_cv A M k R wt s = hu_dv k M d * 2 ^ q + g) : hu_qs k M R wt s = d ∧ hu_tn A wt s = q ∧ hu_tv A wt s = g := by
  have sp := hu_qs_spec hr h hp hs
  have tv := hu_tv_lt (wt := wt) hr.2.1 hs
  unfold hu_cl at e1
  unfold hu_cv at e2
  generalize hu_qs k M R wt s = a at *
  generalize hu_tn A wt s = m at *
  generalize hu_tv A wt s = v at *
  rcases Nat.lt_trichotomy m q with c | c | c
  · exfalso
    obtain ⟨j, rfl⟩ : ∃ j, q = m + (j + 1) := ⟨q - m - 1, by omega⟩
    have x : hu_dv k M a / 2 ^ (j + 1) = hu_dv k M d := by
      rw [← hb_hi (b := m) (i := j + 1) tv, e2, Nat.mul_comm, Nat.mul_add_div (Nat.two_pow_pos _), Nat.div_eq_of_lt hg, Nat.add_zero]
    have y := hu_d_pre h hp hd j a sp.1 (by omega) x
    omega
  · subst c
    have x : hu_dv k M a = hu_dv k M d := by
      have y := congrArg (fun z => z / 2 ^ m) e2
      rw [Nat.mul_comm, Nat.mul_add_div (Nat.two_pow_pos _), Nat.div_eq_of_lt tv, Nat.mul_comm (hu_dv k M d), Nat.mul_add_div (Nat.two_pow_pos _), Nat.div_eq_of_lt hg] at y
      omega
    have y := hu_d_inj h hp a a d (Nat.le_refl _) sp.1 hd (by omega) x
    subst y
    exact ⟨rfl, rfl, by omega⟩
  · exfalso
    obtain ⟨j, rfl⟩ : ∃ j, m = q + (j + 1) := ⟨m - q - 1, by omega⟩
    have x : hu_dv k M d / 2 ^ (j + 1) = hu_dv k M a := by
      rw [← hb_hi (b := q) (i := j + 1) hg, ← e2, Nat.mul_comm, Nat.mul_add_div (Nat.two_pow_pos _), Nat.div_eq_of_lt tv, Nat.add_zero]
    have y := hu_d_pre h hp sp.1 j d hd (by omega) x
    omega
theorem hu_match_r {s d g q : Nat} (h1 : hu_qs k M R wt s = d) (h2 : hu_tn A wt s = q) (h3 : hu_tv A wt s = g) : hu_cl A M k R wt s = hu_dl k M d + q ∧ hu_cv A M k R wt s = hu_dv k M d * 2 ^ q + g := by
  unfold hu_cl hu_cv
  rw [h1, h2, h3]
  exact ⟨rfl, rfl⟩
theorem hu_cz_inj {a b : Nat} (ha : wt a = 0) (hb : wt b = 0) (e : hu_cz wt a = hu_cz wt b) : a = b := by
  rcases Nat.lt_trichotomy a b with c | c | c
  · have := hu_cz_lt c ha; omega
  · exact c
  · have := hu_cz_lt c hb; omega
theorem hu_code_inj (hr : hu_ro A M R wt) (h : hu_sh M k) (hp : hu_ps M k) {s s' : Nat} (hs : s < A) (hs' : s' < A) (e1 : hu_cl A M k R wt s = hu_cl A M k R wt s') (e2 : hu_cv A M k R wt s = hu_cv A M k R wt s') : s = s' := by
  have sp := hu_qs_spec hr h hp hs
  have sp' := hu_qs_spec hr h hp hs'
  have hA := hr.2.1
  have m := hu_match hr h hp hs sp'.1 (hu_tv_lt hr.2.1 hs') (Or.inr sp'.2.1) e1 e2
  rw [m.1] at sp
  by_cases c : wt s = 0
  · by_cases c' : wt s' = 0
    · have t1 := m.2.1
      have t2 := m.2.2
      unfold hu_tn at t1
      unfold hu_tv at t2
      rw [if_pos c, if_pos c'] at t1 t2
      refine hu_cz_inj c c' ?_
      by_cases d : hu_cz wt s < hu_so2 (hu_cz wt A)
      · by_cases d' : hu_cz wt s' < hu_so2 (hu_cz wt A)
        · rw [if_pos d, if_pos d'] at t2; omega
        · rw [if_pos d, if_neg d'] at t1; omega
      · by_cases d' : hu_cz wt s' < hu_so2 (hu_cz wt A)
        · rw [if_neg d, if_pos d'] at t1; omega
        · rw [if_neg d, if_neg d'] at t2; omega
    · rw [if_pos c] at sp
      rw [if_neg c'] at sp'
      omega
  · rw [if_neg c] at sp
    by_cases c' : wt s' = 0
    · rw [if_pos c'] at sp'
      omega
    · rw [if_neg c'] at sp'
      omega
theorem hu_cz_at : ∀ n r, r < hu_cz wt n → ∃ s, s < n ∧ wt s = 0 ∧ hu_cz wt s = r := by
  intro n
  induction n with
  | zero => intro r h; exact absurd h (by show ¬ r < 0; omega)
  | succ n ih =>
    intro r h
    have e : hu_cz wt (n + 1) = hu_cz wt n + (if wt n = 0 then 1 else 0) := rfl
    rw [e] at h
    by_cases c : r < hu_cz wt n
    · obtain ⟨s, h1, h2, h3⟩ := ih r c
      exact ⟨s, by omega, h2, h3⟩
    · by_cases d : wt n = 0
      · rw [if_pos d] at h
        exact ⟨n, by omega, d, by omega⟩
      · rw [if_neg d] at h; omega
theorem hu_DS0 (hr : hu_ro A M R wt) (h : hu_sh M k) (hp : hu_ps M k) : hu_DS A M R wt k 0 0 0 := by
  refine ⟨by omega, by decide, ?_⟩
  by_cases c : M = 0
  · subst c
    have e0 := h.1
    have e1 := h.2.1
    rcases hr.2.2.2.2.1 with x | x
    · refine Or.inr ⟨by rw [e0]; exact e1, by rw [e0]; exact x.1, Or.inl ?_⟩
      have u : hu_cz wt A = A := by omega
      have a1 := hr.1
      have a2 := hr.2.1
      have F := hu_fl_all A (by omega) (by omega)
      rw [u]
      by_cases z : hu_fl A = 0
      · rw [z] at F
        have : 2 ^ 0 = 1 := rfl
        omega
      · omega
    · have := hr.1; omega
  · have e0 := h.1
    have e1 := hu_root h hp (by omega)
    exact Or.inl ⟨by rw [e0]; exact e1, rfl⟩
/-- the bits read so far are few -/
theorem hu_DS_l (hr : hu_ro A M R wt) (h : hu_sh M k) (hp : hu_ps M k) {d g q : Nat} (D : hu_DS A M R wt k d g q) : hu_dl k M d + q ≤ 30 ∧ q ≤ 5 := by
  obtain ⟨d1, d2, d3⟩ := D
  have m := hu_ro_M hr
  have hA := hr.2.1
  rcases d3 with ⟨x, y⟩ | ⟨x, y, z⟩
  · have kM := hu_inM h d1 x
    have p := hp d d1 x
    by_cases c : d = 0
    · rw [c, hu_dl_0]; omega
    · have l := hu_dl_le h hp d d (Nat.le_refl _) c d1
      omega
  · have jM := hu_lfM h d1 x
    have e := hu_E_slot h hp
    have l := hu_dl_M h hp d1
    rcases hr.2.2.2.2.1 with w | w
    · have F := hu_fl_all (hu_cz wt A) (by omega) (by omega)
      have so : hu_so2 (hu_cz wt A) = 2 * 2 ^ hu_fl (hu_cz wt A) - hu_cz wt A := rfl
      rcases z with z | z
      · omega
      · rw [z.1] at d2
        omega
    · exfalso
      by_cases c : d - k d = M
      · rw [c] at y; omega
      · have := (hr.2.2.2.1 (d - k d) (by omega)).1; omega
/-- E is at the last slot, and some symbol is unseen -/
theorem hu_DS_E (hr : hu_ro A M R wt) (h : hu_sh M k) (hp : hu_ps M k) {d : Nat} (hd : d < 2 * M + 1) (hl : k (d + 1) = k d) (hR : R (d - k d) = 100) : d = 2 * M ∧ R M = 100 ∧ hu_cz wt A + M = A ∧ 1 ≤ hu_cz wt A := by
  have jM := hu_lfM h hd hl
  have e := hu_E_slot h hp
  have hA := hr.2.1
  rcases hr.2.2.2.2.1 with w | w
  · have x := hr.2.2.1 _ _ jM (Nat.le_refl M) (by rw [hR, w.1])
    exact ⟨hu_lfU h hd (by omega) hl e.1 (by omega), w.1, w.2.2, by omega⟩
  · exfalso
    by_cases c : d - k d = M
    · rw [c] at hR; omega
    · have := (hr.2.2.2.1 (d - k d) (by omega)).1; omega
/-- what the tail read so far says: q of its bits, g their value -/
theorem hu_tail_some (hr : hu_ro A M R wt) (h : hu_sh M k) (hp : hu_ps M k) {s g q : Nat} (hs : s < A) (h0 : wt s = 0) (hq : (q = hu_fl (hu_cz wt A) ∧ g < hu_so2 (hu_cz wt A) ∧ hu_cz wt s = g) ∨ (q = hu_fl (hu_cz wt A) + 1 ∧ 2 * hu_so2 (hu_cz wt A) ≤ g ∧ hu_cz wt s = g - hu_so2 (hu_cz wt A))) :
    hu_cl A M k R wt s = hu_dl k M (2 * M) + q ∧ hu_cv A M k R wt s = hu_dv k M (2 * M) * 2 ^ q + g := by
  refine hu_match_r (if_pos h0) ?_ ?_
  · unfold hu_tn
    rw [if_pos h0]
    rcases hq with x | x
    · rw [if_pos (by omega), x.1]
    · rw [if_neg (by omega), x.1]
  · unfold hu_tv
    rw [if_pos h0]
    rcases hq with x | x
    · rw [if_pos (by omega), x.2.2]
    · rw [if_neg (by omega), x.2.2]; omega
theorem hu_tail_none (hr : hu_ro A M R wt) (h : hu_sh M k) (hp : hu_ps M k) {s g q : Nat} (hs : s < A) (hE : R M = 100) (hg : g < 2 ^ q) (hq : q < hu_fl (hu_cz wt A) ∨ (q = hu_fl (hu_cz wt A) ∧ hu_so2 (hu_cz wt A) ≤ g)) :
    ¬ (hu_cl A M k R wt s = hu_dl k M (2 * M) + q ∧ hu_cv A M k R wt s = hu_dv k M (2 * M) * 2 ^ q + g) := by
  intro ⟨e1, e2⟩
  have e := hu_E_slot h hp
  have m := hu_match hr h hp hs (by omega) hg (Or.inr e.1) e1 e2
  have sp := hu_qs_spec hr h hp hs
  have hA := hr.2.1
  rw [m.1, e.2, hE] at sp
  by_cases c : wt s = 0
  · have t1 := m.2.1
    have t2 := m.2.2
    unfold hu_tn at t1
    unfold hu_tv at t2
    rw [if_pos c] at t1 t2
    by_cases d : hu_cz wt s < hu_so2 (hu_cz wt A)
    · rw [if_pos d] at t1 t2; omega
    · rw [if_neg d] at t1 t2; omega
  · rw [if_neg c] at sp
    omega
theorem hu_in_none (hr : hu_ro A M R wt) (h : hu_sh M k) (hp : hu_ps M k) {s d : Nat} (hs : s < A) (hd : d < 2 * M + 1) (hin : k (d + 1) = k d + 1) :
    ¬ (hu_cl A M k R wt s = hu_dl k M d + 0 ∧ hu_cv A M k R wt s = hu_dv k M d * 2 ^ 0 + 0) := by
  intro ⟨e1, e2⟩
  have m := hu_match hr h hp hs hd (by decide) (Or.inl rfl) e1 e2
  have sp := hu_qs_spec hr h hp hs
  rw [m.1] at sp
  omega
theorem hu_lf_some (hr : hu_ro A M R wt) (h : hu_sh M k) {s d : Nat} (hd : d < 2 * M + 1) (hl : k (d + 1) = k d) (hR : R (d - k d) = s) (hs : s < 32) :
    s < A ∧ hu_cl A M k R wt s = hu_dl k M d + 0 ∧ hu_cv A M k R wt s = hu_dv k M d * 2 ^ 0 + 0 := by
  have sy := hu_ro_sym hr (hu_lfM h hd hl) (by omega)
  rw [hR] at sy
  have w0 : ¬ wt s = 0 := by omega
  refine ⟨sy.1, hu_match_r ?_ (if_neg w0) (if_neg w0)⟩
  unfold hu_qs
  rw [if_neg w0]
  exact hu_ls_eq hr h hd hl hR
/-- one step down: the child's path -/
theorem hu_down (h : hu_sh M k) (hp : hu_ps M k) {d bit : Nat} (hd : d < 2 * M + 1) (hin : k (d + 1) = k d + 1) (hb : bit < 2) :
    2 * k d + 2 - bit < 2 * M + 1 ∧ hu_dl k M (2 * k d + 2 - bit) = hu_dl k M d + 1 ∧ hu_dv k M (2 * k d + 2 - bit) = 2 * hu_dv k M d + bit := by
  have kM := hu_inM h hd hin
  have q0 : 2 * k d + 2 - bit ≠ 0 := by omega
  have e := hu_pa_eq h q0 (by omega) hd hin (by omega)
  have x := hu_d_s h hp q0 (by omega)
  rw [← e] at x
  exact ⟨by omega, x.1, by rw [x.2]; omega⟩
end
end
section
/-! the component: a bit taken -/
section
variable {A M n d g q bit : Nat} {k R wt W : Nat → Nat}
variable {eA eT eC rh rc pb pc ds tb tc un : Int32} {oc sw iz lz nd sn tx tn rg : Nat → Int32}
theorem hx_unseenAt_4 {post : Int32 → Prop} {s : Nat} (I : hu_XT 1 A n M R wt k W oc sw iz lz nd sn) (hs : s < A) (h0 : wt s = 0) (H : post (nI s)) :
    ∀ (e i f : Nat), i + e = s → e < f → wX_unseenAt_4 post (nI A) eT eC rh rc pb pc ds tb tc un oc sw iz lz nd sn tx tn rg f (nI (hu_cz wt s - hu_cz wt i)) (nI i) := by
  have hA := I.1.2.1
  have hM := hu_ro_M I.1
  have les := hu_cz_le wt s
  intro e
  induction e with
  | zero =>
    intro i f hid hf
    obtain ⟨f, rfl⟩ : ∃ g, f = g + 1 := ⟨f - 1, by omega⟩
    have e : i = s := by omega
    subst e
    have e1 : (32 : Int32) + nI i = nI (1 * 32 + i) := nI_add 32 i
    refine br_f (nI_ge hs (by omega)) ⟨pk_in _ 64 (by omega) e1, ?_⟩
    rw [e1, nI_clamp (by omega)]
    refine br_t (hu_XT_lz0 I (by omega) h0) ?_
    rw [Nat.sub_self]
    exact br_t rfl H
  | succ e ih =>
    intro i f hid hf
    obtain ⟨f, rfl⟩ : ∃ g, f = g + 1 := ⟨f - 1, by omega⟩
    have e1 : (32 : Int32) + nI i = nI (1 * 32 + i) := nI_add 32 i
    have nx := ih (i + 1) f (by omega) (by omega)
    have es : hu_cz wt (i + 1) = hu_cz wt i + (if wt i = 0 then 1 else 0) := rfl
    rw [es] at nx
    refine br_f (nI_ge (by omega) (by omega)) ⟨pk_in _ 64 (by omega) e1, ?_⟩
    rw [e1, nI_clamp (by omega)]
    by_cases c : wt i = 0
    · rw [if_pos c] at nx
      have l := hu_cz_lt (a := i) (b := s) (by omega) c
      refine br_t (hu_XT_lz0 I (by omega) c) (br_f (nI_ne0 (by omega) (by omega)) (nm_r (sb_m1 (by omega)) (nm_r (nI_1 i) ?_)))
      have e2 : hu_cz wt s - hu_cz wt i - 1 = hu_cz wt s - (hu_cz wt i + 1) := by omega
      rw [e2]
      exact nx
    · rw [if_neg c] at nx
      have l := hu_XT_lz1 I (s := i) (by omega) c
      rw [l.1]
      exact br_f (nI_ne0 (by omega) (by omega)) (nm_r (nI_1 i) nx)
theorem hx_unseenAt {post : Int32 → Prop} {s : Nat} (I : hu_XT 1 A n M R wt k W oc sw iz lz nd sn) (hs : s < A) (h0 : wt s = 0) (H : post (nI s)) : wpX_unseenAt post (nI A, eT, eC, rh, rc, pb, pc, ds, tb, tc, un, oc, sw, iz, lz, nd, sn, tx, tn, rg) (nI (hu_cz wt s)) :=
  ⟨s + 1, hx_unseenAt_4 I hs h0 H s 0 (s + 1) (by omega) (by omega)⟩
theorem hx_readTail_none {post : Int32 → Prop} (I : hu_XT 1 A n M R wt k W oc sw iz lz nd sn) (hu1 : 1 ≤ hu_cz wt A) (hg : g < 2 ^ 20) (hq : q < hu_fl (hu_cz wt A) ∨ (q = hu_fl (hu_cz wt A) ∧ hu_so2 (hu_cz wt A) ≤ g)) (H : post (-4)) : wpX_readTail post (nI A, eT, eC, rh, rc, pb, pc, ds, nI g, nI q, un, oc, sw, iz, lz, nd, sn, tx, tn, rg) := by
  have hA := I.1.2.1
  have le := hu_cz_le wt A
  have F := hu_fl_all (hu_cz wt A) (by omega) hu1
  refine nm_r (hu_XT_u I) ?_
  refine hx_floorLog (by omega) hu1 ?_
  refine nm_r (hx_so2 (by omega) hu1) ?_
  rcases hq with x | x
  · exact br_f (nI_ge x (by omega)) H
  · rw [x.1]
    exact br_t (nI_le (Nat.le_refl _) (by omega)) (br_t (nI_le (Nat.le_refl _) (by omega)) (br_t (nI_le x.2 (by omega)) H))
theorem hx_readTail_some {post : Int32 → Prop} {s : Nat} (I : hu_XT 1 A n M R wt k W oc sw iz lz nd sn) (hg : g < 2 ^ 20) (hs : s < A) (h0 : wt s = 0)
    (hq : (q = hu_fl (hu_cz wt A) ∧ g < hu_so2 (hu_cz wt A) ∧ hu_cz wt s = g) ∨ (q = hu_fl (hu_cz wt A) + 1 ∧ 2 * hu_so2 (hu_cz wt A) ≤ g ∧ hu_cz wt s = g - hu_so2 (hu_cz wt A))) (H : post (nI s)) : wpX_readTail post (nI A, eT, eC, rh, rc, pb, pc, ds, nI g, nI q, un, oc, sw, iz, lz, nd, sn, tx, tn, rg) := by
  have hA := I.1.2.1
  have le := hu_cz_le wt A
  have hu1 := hu_cz_pos h0 A hs
  have F := hu_fl_all (hu_cz wt A) (by omega) hu1
  refine nm_r (hu_XT_u I) ?_
  refine hx_floorLog (by omega) hu1 ?_
  refine nm_r (hx_so2 (by omega) hu1) ?_
  have U := hx_unseenAt (post := post) (eT := eT) (eC := eC) (rh := rh) (rc := rc) (pb := pb) (pc := pc) (ds := ds) (tb := nI g) (tc := nI q) (un := un) (tx := tx) (tn := tn) (rg := rg) I hs h0 H
  rcases hq with x | x
  · rw [x.2.2] at U
    rw [x.1] at U ⊢
    exact br_t (nI_le (Nat.le_refl _) (by omega)) (br_t (nI_le (Nat.le_refl _) (by omega)) (br_f (nI_ge x.2.1 (by omega)) U))
  · rw [x.2.2] at U
    refine br_t (nI_le (by omega) (by omega)) (br_f (nI_ge (by omega) (by omega)) ?_)
    rw [pk_sub (by omega)]
    exact U
theorem hb_push {a : Nat} (ha : a < 2 ^ 30) (hb : bit < 2) : (nI a <<< ((1 : Int32) &&& 31)) ||| nI bit = nI (2 * a + bit) := by
  have e : nI a <<< ((1 : Int32) &&& 31) = nI (a * 2 ^ 1) := hb_shl (i := 1) (by omega) (by omega)
  rw [e, hb_or, Nat.or_comm, ← hb_or, hb_orD (i := 1) (by omega)]
  exact congrArg nI (by omega)
theorem hx_advance {post : Int32 → SX → Prop} (I : hu_XT 1 A n M R wt k W oc sw iz lz nd sn) (D : hu_DS A M R wt k d g q) (hb : bit < 2)
    (K1 : ∀ s d' g' q' : Nat, s < A → hu_cl A M k R wt s = hu_dl k M d + q + 1 → hu_cv A M k R wt s = 2 * (hu_dv k M d * 2 ^ q + g) + bit → post (nI s) (nI A, eT, eC, rh, rc, pb, pc, nI d', nI g', nI q', un, oc, sw, iz, lz, nd, sn, tx, tn, rg))
    (K2 : ∀ d' g' q' : Nat, hu_DS A M R wt k d' g' q' → hu_dl k M d' + q' = hu_dl k M d + q + 1 → hu_dv k M d' * 2 ^ q' + g' = 2 * (hu_dv k M d * 2 ^ q + g) + bit →
      (∀ s, s < A → ¬ (hu_cl A M k R wt s = hu_dl k M d + q + 1 ∧ hu_cv A M k R wt s = 2 * (hu_dv k M d * 2 ^ q + g) + bit)) → post (-4) (nI A, eT, eC, rh, rc, pb, pc, nI d', nI g', nI q', un, oc, sw, iz, lz, nd, sn, tx, tn, rg)) :
    wpX_advance post (nI A, eT, eC, rh, rc, pb, pc, nI d, nI g, nI q, un, oc, sw, iz, lz, nd, sn, tx, tn, rg) (nI bit) := by
  have hr := I.1
  have h := I.2.1.1
  have hp := I.2.1.2.1
  have t := I.2.2.1
  have hA := hr.2.1
  have hM := hu_ro_M hr
  have dl := hu_DS_l hr h hp D
  have e72 : (1 : Int32) * 72 + nI d = nI (1 * 72 + d) := hx_72 1 d
  have f72 : (72 : Int32) + nI d = nI (1 * 72 + d) := nI_add 72 d
  obtain ⟨d1, d2, d3⟩ := D
  unfold wpX_advance
  refine ⟨pk_in _ 144 (by omega) e72, ?_⟩
  rw [e72, nI_clamp (by omega)]
  rcases d3 with ⟨x, y⟩ | ⟨x, y, z⟩
  · -- an inner slot
    subst y
    have g0 : g = 0 := by
      have : (2 : Nat) ^ 0 = 1 := rfl
      omega
    subst g0
    have kM := hu_inM h d1 x
    have dn := hu_down h hp d1 x hb
    rw [(t.1 d d1 x).1]
    refine br_f (nI_nlt (b := 101) (by omega) (by omega)) ?_
    refine br_f (by decide) ⟨pk_in _ 144 (by omega) f72, nm_r (e' := nI (k d)) (by rw [f72, nI_clamp (by omega), (t.1 d d1 x).1, show (101 : Int32) = nI 101 from rfl, pk_sub (by omega)]; exact congrArg nI (by omega)) ?_⟩
    have e3 : (2 : Int32) * nI (k d) + 2 - nI bit = nI (2 * k d + 2 - bit) := by
      rw [hx_2m, show (2 : Int32) = nI 2 from rfl, nI_add, pk_sub (by omega)]
    refine nm_r e3 ?_
    have P1 : hu_dl k M (2 * k d + 2 - bit) + 0 = hu_dl k M d + 0 + 1 := by omega
    have P2 : hu_dv k M (2 * k d + 2 - bit) * 2 ^ 0 + 0 = 2 * (hu_dv k M d * 2 ^ 0 + 0) + bit := by
      have : (2 : Nat) ^ 0 = 1 := rfl
      rw [this]
      omega
    generalize hd' : 2 * k d + 2 - bit = d' at *
    have g72 : (72 : Int32) + nI d' = nI (1 * 72 + d') := nI_add 72 d'
    rcases h.2.2 d' dn.1 with lf | inn
    · have t2 := (t.2.1 d' dn.1 lf).1
      rcases hu_ro_val hr (hu_lfM h dn.1 lf) with v | v
      · -- E
        have E := hu_DS_E hr h hp dn.1 lf v
        have le := hu_cz_le wt A
        have F := hu_fl_all (hu_cz wt A) (by omega) E.2.2.2
        refine ⟨pk_in _ 144 (by omega) g72, nm_r (e' := nI 100) (by rw [g72, nI_clamp (by omega), t2, v]) ?_⟩
        refine br_t (by decide) (br_t rfl ?_)
        by_cases c : hu_fl (hu_cz wt A) = 0
        · have p0 : (2 : Nat) ^ 0 = 1 := rfl
          have p1 : (1 : Nat) < 2 ^ 20 := by decide
          rw [c] at F
          obtain ⟨s, s1, s2, s3⟩ := hu_cz_at (wt := wt) A 0 (by omega)
          have cond : (0 = hu_fl (hu_cz wt A) ∧ 0 < hu_so2 (hu_cz wt A) ∧ hu_cz wt s = 0) ∨ (0 = hu_fl (hu_cz wt A) + 1 ∧ 2 * hu_so2 (hu_cz wt A) ≤ 0 ∧ hu_cz wt s = 0 - hu_so2 (hu_cz wt A)) := Or.inl ⟨c.symm, by omega, s3⟩
          have so := hu_tail_some hr h hp s1 s2 cond
          rw [← E.1, P1, P2] at so
          exact hx_readTail_some I (by decide) s1 s2 cond (K1 s d' 0 0 s1 so.1 so.2)
        · have cond : 0 < hu_fl (hu_cz wt A) ∨ (0 = hu_fl (hu_cz wt A) ∧ hu_so2 (hu_cz wt A) ≤ 0) := Or.inl (by omega)
          refine hx_readTail_none I E.2.2.2 (by decide) cond (K2 d' 0 0 ⟨dn.1, by decide, Or.inr ⟨lf, v, cond⟩⟩ P1 P2 ?_)
          intro s hs
          have no := hu_tail_none hr h hp hs E.2.1 (by decide) cond
          rw [← E.1, P1, P2] at no
          exact no
      · -- a symbol
        have so := hu_lf_some hr h dn.1 lf rfl v
        rw [P1, P2] at so
        refine ⟨pk_in _ 144 (by omega) g72, nm_r (e' := nI (R (d' - k d'))) (by rw [g72, nI_clamp (by omega), t2]) ?_⟩
        exact br_f (nI_ge (b := 100) (by omega) (by omega)) (K1 _ d' 0 0 so.1 so.2.1 so.2.2)
    · -- inner again
      have kM2 := hu_inM h dn.1 inn
      refine ⟨pk_in _ 144 (by omega) g72, nm_r (e' := nI (101 + k d')) (by rw [g72, nI_clamp (by omega), (t.1 d' dn.1 inn).1]) ?_⟩
      refine br_t (nI_le (a := 100) (by omega) (by omega)) (br_f (fun z => by have := (nI_eq (b := 100) (by omega) (by omega)).mp z; omega) (K2 d' 0 0 ⟨dn.1, by decide, Or.inl ⟨inn, rfl⟩⟩ P1 P2 ?_))
      intro s hs
      have no := hu_in_none hr h hp hs dn.1 inn
      rw [P1, P2] at no
      exact no
  · -- at E
    have E := hu_DS_E hr h hp d1 x y
    have le := hu_cz_le wt A
    have F := hu_fl_all (hu_cz wt A) (by omega) E.2.2.2
    have so : hu_so2 (hu_cz wt A) = 2 * 2 ^ hu_fl (hu_cz wt A) - hu_cz wt A := rfl
    have q64 : 2 ^ q ≤ 2 ^ 5 := Nat.pow_le_pow_right (by decide) dl.2
    have p20 : (32 : Nat) ≤ 2 ^ 15 := by decide
    have g32 : g < 32 := Nat.lt_of_lt_of_le d2 q64
    have gb : 2 * g + bit < 2 ^ (q + 1) := by rw [Nat.pow_succ]; omega
    have P1 : hu_dl k M d + (q + 1) = hu_dl k M d + q + 1 := by omega
    have P2 : hu_dv k M d * 2 ^ (q + 1) + (2 * g + bit) = 2 * (hu_dv k M d * 2 ^ q + g) + bit := by
      rw [Nat.pow_succ, ← Nat.mul_assoc]
      omega
    rw [(t.2.1 d d1 x).1, y]
    refine br_t (by decide) ?_
    refine br_t rfl (nm_r (hb_push (by omega) hb) (nm_r (nI_1 q) ?_))
    by_cases c : q + 1 < hu_fl (hu_cz wt A) ∨ (q + 1 = hu_fl (hu_cz wt A) ∧ hu_so2 (hu_cz wt A) ≤ 2 * g + bit)
    · refine hx_readTail_none I E.2.2.2 (by omega) c (K2 d (2 * g + bit) (q + 1) ⟨d1, gb, Or.inr ⟨x, y, c⟩⟩ P1 P2 ?_)
      intro s hs
      have no := hu_tail_none hr h hp hs E.2.1 gb c
      rw [← E.1, P1, P2] at no
      exact no
    · have ex : ∃ s, s < A ∧ wt s = 0 ∧ ((q + 1 = hu_fl (hu_cz wt A) ∧ 2 * g + bit < hu_so2 (hu_cz wt A) ∧ hu_cz wt s = 2 * g + bit) ∨ (q + 1 = hu_fl (hu_cz wt A) + 1 ∧ 2 * hu_so2 (hu_cz wt A) ≤ 2 * g + bit ∧ hu_cz wt s = 2 * g + bit - hu_so2 (hu_cz wt A))) := by
        rcases z with z | z
        · obtain ⟨s, s1, s2, s3⟩ := hu_cz_at (wt := wt) A (2 * g + bit) (by omega)
          exact ⟨s, s1, s2, Or.inl ⟨by omega, by omega, s3⟩⟩
        · rw [z.1, Nat.pow_succ] at gb
          obtain ⟨s, s1, s2, s3⟩ := hu_cz_at (wt := wt) A (2 * g + bit - hu_so2 (hu_cz wt A)) (by omega)
          exact ⟨s, s1, s2, Or.inr ⟨by omega, by omega, s3⟩⟩
      obtain ⟨s, s1, s2, cond⟩ := ex
      have sm := hu_tail_some hr h hp s1 s2 cond
      rw [← E.1, P1, P2] at sm
      exact hx_readTail_some I (by omega) s1 s2 cond (K1 s d _ _ s1 sm.1 sm.2)
end
section
variable {A c h d g q bit n0 n1 M0 M1 : Nat} {t0 t1 b R0 w0 k0 W0 R1 w1 k1 W1 : Nat → Nat}
variable {eA eT eC rh rc pb pc ds tb tc un : Int32} {oc sw iz lz nd sn tx tn rg : Nat → Int32}
theorem hx_takeBit {post : Int32 → SX → Prop} (X : hu_XA A c h n0 n1 M0 M1 t0 t1 b R0 w0 k0 W0 R1 w1 k1 W1 oc sw iz lz nd sn tx tn rg) (D : hu_DS A M1 R1 w1 k1 d g q) (hb : bit < 2) (hn : n1 < 256) (hn0 : n0 ≤ 256)
    (K1 : ∀ (s : Nat) (k' W' : Nat → Nat) (oc' sw' iz' lz' nd' sn' tx' tn' : Nat → Int32), s < A → hu_cl A M1 k1 R1 w1 s = hu_dl k1 M1 d + q + 1 → hu_cv A M1 k1 R1 w1 s = 2 * (hu_dv k1 M1 d * 2 ^ q + g) + bit →
      hu_XA A c h n0 (n1 + 1) M0 (hu_us A (M1, R1, w1) s).1 t0 (hu_up t1 n1 s) b R0 w0 k0 W0 (hu_us A (M1, R1, w1) s).2.1 (hu_us A (M1, R1, w1) s).2.2 k' W' oc' sw' iz' lz' nd' sn' tx' tn' rg →
      post (nI s) (nI A, eT, eC, rh, rc, 0, 0, 0, 0, 0, un, oc', sw', iz', lz', nd', sn', tx', tn', rg))
    (K2 : ∀ d' g' q' : Nat, hu_DS A M1 R1 w1 k1 d' g' q' → hu_dl k1 M1 d' + q' = hu_dl k1 M1 d + q + 1 → hu_dv k1 M1 d' * 2 ^ q' + g' = 2 * (hu_dv k1 M1 d * 2 ^ q + g) + bit →
      (∀ s, s < A → ¬ (hu_cl A M1 k1 R1 w1 s = hu_dl k1 M1 d + q + 1 ∧ hu_cv A M1 k1 R1 w1 s = 2 * (hu_dv k1 M1 d * 2 ^ q + g) + bit)) →
      post (-4) (nI A, eT, eC, rh, rc, nI (2 * (hu_dv k1 M1 d * 2 ^ q + g) + bit), nI (hu_dl k1 M1 d + q + 1), nI d', nI g', nI q', un, oc, sw, iz, lz, nd, sn, tx, tn, rg)) :
    wpX_takeBit post (nI A, eT, eC, rh, rc, nI (hu_dv k1 M1 d * 2 ^ q + g), nI (hu_dl k1 M1 d + q), nI d, nI g, nI q, un, oc, sw, iz, lz, nd, sn, tx, tn, rg) (nI bit) := by
  have I := X.2.1
  have hA := I.1.2.1
  have dl := hu_DS_l I.1 I.2.1.1 I.2.1.2.1 D
  have P30 : hu_dv k1 M1 d * 2 ^ q + g < 2 ^ 30 := Nat.lt_of_lt_of_le (hu_pw_add (hu_dv_lt I.2.1.1 I.2.1.2.1 _ _ (Nat.le_refl _) D.1) D.2.1) (Nat.pow_le_pow_right (by decide) dl.1)
  unfold wpX_takeBit
  refine nm_r (hb_push P30 hb) (nm_r (nI_1 _) ?_)
  refine hx_advance I D hb ?_ ?_
  · intro s d' g' q' h1 h2 h3
    refine br_f (nI_pos (by omega)) ?_
    refine hx_app1 X hn hn0 h1 ?_
    intro k' W' oc' sw' iz' lz' nd' sn' tx' tn' X'
    exact K1 s k' W' oc' sw' iz' lz' nd' sn' tx' tn' h1 h2 h3 X'
  · intro d' g' q' h1 h2 h3 h4
    exact br_t (by decide) (K2 d' g' q' h1 h2 h3 h4)
end
end
section
/-! the reference: a bit taken -/
section
theorem hb_ext : ∀ l V P : Nat, V < 2 ^ l → P < 2 ^ l → (∀ i, i < l → V / 2 ^ (l - 1 - i) % 2 = P / 2 ^ (l - 1 - i) % 2) → V = P := by
  intro l
  induction l with
  | zero =>
    intro V P hV hP _
    have : (2 : Nat) ^ 0 = 1 := rfl
    omega
  | succ l ih =>
    intro V P hV hP h
    rw [Nat.pow_succ] at hV hP
    have x := ih (V / 2) (P / 2) (by omega) (by omega) (fun i hi => by
      have y := h i (by omega)
      have e : l + 1 - 1 - i = (l - 1 - i) + 1 := by omega
      rw [e, Nat.pow_succ, Nat.mul_comm, ← Nat.div_div_eq_div_mul, ← Nat.div_div_eq_div_mul] at y
      exact y)
    have y := h l (by omega)
    have e : l + 1 - 1 - l = 0 := by omega
    rw [e, Nat.pow_zero, Nat.div_one, Nat.div_one] at y
    omega
theorem hu_BT_push {P l bit : Nat} {pt : Nat → Int32} (B : hu_BT P l pt) (hb : bit < 2) : hu_BT (2 * P + bit) (l + 1) (upd pt l (nI bit)) := by
  intro i hi
  by_cases c : i = l
  · subst c
    have e : i + 1 - 1 - i = 0 := by omega
    rw [pk_us, e, Nat.pow_zero, Nat.div_one]
    exact congrArg nI (by omega)
  · have e : l + 1 - 1 - i = 1 + (l - 1 - i) := by omega
    rw [pk_un c, B i (by omega), e, Nat.pow_add, ← Nat.div_div_eq_div_mul]
    have e2 : (2 * P + bit) / 2 ^ 1 = P := by
      have : (2 : Nat) ^ 1 = 2 := rfl
      omega
    rw [e2]
variable {A T C c P l bit n0 n1 M n : Nat} {t0 t1 b k R wt W : Nat → Nat}
variable {yA yT yC cl pl cf rl no co : Int32} {ty tl ch pt we ro wh hv pr iw cd : Nat → Int32}
theorem hy_take_60 {post : Int32 → SY → Prop} {J : Int32 → Int32 → Int32 → Int32 → Int32 → Int32 → Int32 → Int32 → Int32 → Int32 → (Nat → Int32) → (Nat → Int32) → (Nat → Int32) → (Nat → Int32) → (Nat → Int32) → (Nat → Int32) → (Nat → Int32) → (Nat → Int32) → (Nat → Int32) → (Nat → Int32) → (Nat → Int32) → Prop}
    {x2 : Int32} {V : Nat} (hl : l ≤ 31) (hV : V < 2 ^ l) (hP : P < 2 ^ l) (B1 : hu_BT V l cd) (B2 : hu_BT P l pt)
    (Ky : V = P → wY_take_98 post J x2 1 yA yT yC cl (nI l) cf rl no co ty tl ch pt we ro wh hv pr iw cd) (Kn : V ≠ P → wY_take_98 post J x2 0 yA yT yC cl (nI l) cf rl no co ty tl ch pt we ro wh hv pr iw cd) :
    ∀ (e i f : Nat), i + e = l → e + 1 < f → (∀ j, j < i → V / 2 ^ (l - 1 - j) % 2 = P / 2 ^ (l - 1 - j) % 2) → wY_take_60 post J x2 yA yT yC cl (nI l) cf rl no co ty tl ch pt we ro wh hv pr iw cd f 1 (nI i) := by
  intro e
  induction e with
  | zero =>
    intro i f hid hf H
    obtain ⟨f, rfl⟩ : ∃ g, f = g + 1 := ⟨f - 1, by omega⟩
    have e : i = l := by omega
    subst e
    exact br_t (nI_le (Nat.le_refl _) (by omega)) (Ky (hb_ext _ _ _ hV hP H))
  | succ e ih =>
    intro i f hid hf H
    obtain ⟨f, rfl⟩ : ∃ g, f = g + 1 := ⟨f - 1, by omega⟩
    have m1 := Nat.mod_lt (V / 2 ^ (l - 1 - i)) (by omega : 2 > 0)
    have m2 := Nat.mod_lt (P / 2 ^ (l - 1 - i)) (by omega : 2 > 0)
    refine br_f (nI_ge (by omega) (by omega)) (br_f (by decide) ⟨vp_in_nI (by omega) (by omega), vp_in_nI (by omega) (by omega), ?_⟩)
    rw [nI_clamp (by omega), B1 i (by omega), B2 i (by omega)]
    by_cases d : V / 2 ^ (l - 1 - i) % 2 = P / 2 ^ (l - 1 - i) % 2
    · refine br_t (by rw [d]) (nm_r (nI_1 i) (ih (i + 1) f (by omega) (by omega) ?_))
      intro j hj
      by_cases z : j = i
      · rw [z]; exact d
      · exact H j (by omega)
    · have ne : V ≠ P := fun z => d (by rw [z])
      refine br_f (fun z => d ((nI_eq (by omega) (by omega)).mp z)) (nm_r (nI_1 i) ?_)
      obtain ⟨f, rfl⟩ : ∃ g, f = g + 1 := ⟨f - 1, by omega⟩
      exact br_c (fun _ => Kn ne) (fun _ => br_t rfl (Kn ne))
theorem hy_take_27 {post : Int32 → SY → Prop} (hr : hu_ro A M R wt) (hc : hu_CI M R wt k W 0 n) (hwt : ∀ x, wt x < 2 ^ 20) (yr : hu_YR M R wt ro we) (np : hu_NP M k R W wh hv pr) (hl : l ≤ 31) (hP : P < 2 ^ l) (Y : hu_YA c P l n0 n1 t0 t1 b ty tl ch pt) (hn : n1 < 256) (hn0 : n0 ≤ 256)
    (K1 : ∀ (s : Nat) (co' : Int32) (ty' tl' cd' : Nat → Int32), s < A → hu_cl A M k R wt s = l → hu_cv A M k R wt s = P → hu_YA c P l n0 (n1 + 1) t0 (hu_up t1 n1 s) b ty' tl' ch pt → post (nI s) (nI A, yT, yC, cl, 0, cf, rl, nI (2 * M + 1), co', ty', tl', ch, pt, we, ro, wh, hv, pr, iw, cd'))
    (K2 : ∀ (co' : Int32) (cd' : Nat → Int32), (∀ s, s < A → ¬ (hu_cl A M k R wt s = l ∧ hu_cv A M k R wt s = P)) → post (-4) (nI A, yT, yC, cl, nI l, cf, rl, nI (2 * M + 1), co', ty, tl, ch, pt, we, ro, wh, hv, pr, iw, cd')) :
    ∀ (e i f : Nat) (co : Int32) (cd : Nat → Int32), i + e = A → e < f → (∀ s, s < i → ¬ (hu_cl A M k R wt s = l ∧ hu_cv A M k R wt s = P)) → wY_take_27 post f (nI i) (nI A) yT yC cl (nI l) cf rl (nI (2 * M + 1)) co ty tl ch pt we ro wh hv pr iw cd := by
  have hA := hr.2.1
  intro e
  induction e with
  | zero =>
    intro i f co cd hid hf H
    obtain ⟨f, rfl⟩ : ∃ g, f = g + 1 := ⟨f - 1, by omega⟩
    have e : i = A := by omega
    subst e
    exact br_t (nI_le (Nat.le_refl _) (by omega)) (K2 co cd H)
  | succ e ih =>
    intro i f co cd hid hf H
    obtain ⟨f, rfl⟩ : ∃ g, f = g + 1 := ⟨f - 1, by omega⟩
    have hi : i < A := by omega
    have cb := (hu_cl_le hr hc.1 hc.2.1 hi).1
    have cv := hu_cv_lt hr hc.1 hc.2.1 hi
    refine br_f (nI_ge hi (by omega)) ?_
    refine hy_make hr hc hwt yr np hi ?_
    intro cd' B
    have Kn : ¬ (hu_cl A M k R wt i = l ∧ hu_cv A M k R wt i = P) → wY_take_98 post (wY_take_27 post f) (nI i) 0 (nI A) yT yC cl (nI l) cf rl (nI (2 * M + 1)) (nI (hu_cl A M k R wt i)) ty tl ch pt we ro wh hv pr iw cd' := by
      intro z
      refine br_t rfl (nm_r (nI_1 i) (ih (i + 1) f _ cd' (by omega) (by omega) ?_))
      intro s hs
      by_cases w : s = i
      · rw [w]; exact z
      · exact H s (by omega)
    by_cases z : hu_cl A M k R wt i = l
    · refine br_t (by rw [z]) ⟨l + 2, ?_⟩
      rw [z] at B cv Kn ⊢
      refine hy_take_60 hl cv hP B Y.2.2.2.2.2 ?_ (fun w => Kn (fun x => w x.2)) l 0 (l + 2) (by omega) (by omega) (fun j hj => by omega)
      intro w
      refine br_f (by decide) ?_
      refine hy_app1 Y hn hn0 ?_
      intro ty' tl' Y'
      exact K1 i _ ty' tl' cd' hi z w Y'
    · refine br_f (fun w => z ((nI_eq (by omega) (by omega)).mp w)) ⟨1, ?_⟩
      have w := Kn (fun x => z x.1)
      exact br_c (fun _ => w) (fun _ => br_t rfl w)
theorem hy_take {post : Int32 → SY → Prop} (Y : hu_YA c P l n0 n1 t0 t1 b ty tl ch pt) (ok : hu_OK A n1 t1) (erp : hu_rp A t1 n1 = (M, R, wt)) (hr : hu_ro A M R wt) (hci : hu_CI M R wt k W 0 n1) (hl : l ≤ 30) (hP : P < 2 ^ l) (hb : bit < 2) (hn : n1 < 256) (hn0 : n0 ≤ 256)
    (K1 : ∀ (s : Nat) (rl' no' co' : Int32) (ty' tl' pt' we' ro' wh' hv' pr' iw' cd' : Nat → Int32), s < A → hu_cl A M k R wt s = l + 1 → hu_cv A M k R wt s = 2 * P + bit → hu_YA c 0 0 n0 (n1 + 1) t0 (hu_up t1 n1 s) b ty' tl' ch pt' →
      post (nI s) (nI A, yT, yC, cl, 0, cf, rl', no', co', ty', tl', ch, pt', we', ro', wh', hv', pr', iw', cd'))
    (K2 : ∀ (rl' no' co' : Int32) (pt' we' ro' wh' hv' pr' iw' cd' : Nat → Int32), (∀ s, s < A → ¬ (hu_cl A M k R wt s = l + 1 ∧ hu_cv A M k R wt s = 2 * P + bit)) → hu_YA c (2 * P + bit) (l + 1) n0 n1 t0 t1 b ty tl ch pt' →
      post (-4) (nI A, yT, yC, cl, nI (l + 1), cf, rl', no', co', ty, tl, ch, pt', we', ro', wh', hv', pr', iw', cd')) :
    wpY_take post (nI A, yT, yC, cl, nI l, cf, rl, no, co, ty, tl, ch, pt, we, ro, wh, hv, pr, iw, cd) (nI bit) := by
  have hA := hr.2.1
  have B := hu_BT_push Y.2.2.2.2.2 hb
  have P2 : 2 * P + bit < 2 ^ (l + 1) := by rw [Nat.pow_succ]; omega
  unfold wpY_take
  refine ⟨vp_in_nI (by omega) (by omega), nm_r (e' := upd pt l (nI bit)) (by rw [nI_clamp (by omega)]) (nm_r (nI_1 l) ?_)⟩
  refine hy_load (sd := 1) (by omega) (by omega) ok Y.2.1 Y.2.2.2.1 erp hr hci ?_
  intro we' ro' wh' hv' pr' iw' yr np
  have Y2 : hu_YA c (2 * P + bit) (l + 1) n0 n1 t0 t1 b ty tl ch (upd pt l (nI bit)) := ⟨Y.1, Y.2.1, Y.2.2.1, Y.2.2.2.1, Y.2.2.2.2.1, B⟩
  refine ⟨A + 1, hy_take_27 hr hci (hu_wt20 (by omega) erp) yr np (by omega) P2 Y2 hn hn0 ?_ ?_ A 0 (A + 1) co cd (by omega) (by omega) (fun s hs => by omega)⟩
  · intro s co' ty' tl' cd' h1 h2 h3 Y'
    exact K1 s _ _ co' ty' tl' _ _ _ _ _ _ _ cd' h1 h2 h3 ⟨Y'.1, Y'.2.1, Y'.2.2.1, Y'.2.2.2.1, Y'.2.2.2.2.1, fun i hi => by omega⟩
  · intro co' cd' h1
    exact K2 _ _ co' _ _ _ _ _ _ _ cd' h1 Y2
end
end
section
/-! the relation; the start state; reset -/
/-- the relation on the two states -/
def hu_R (u : SX) (v : SY) : Prop := ∃ (A T C c h d g q e n0 n1 M0 M1 : Nat) (t0 t1 b R0 w0 k0 W0 R1 w1 k1 W1 : Nat → Nat) (oc sw iz lz nd sn tx tn rg : Nat → Int32) (rl no co : Int32) (ty tl ch pt we ro wh hv pr iw cd : Nat → Int32), hu_PF A T C c h d g q e n0 n1 M0 M1 t0 t1 b R0 w0 k0 W0 R1 w1 k1 W1 ∧ hu_XA A c h n0 n1 M0 M1 t0 t1 b R0 w0 k0 W0 R1 w1 k1 W1 oc sw iz lz nd sn tx tn rg ∧ hu_YA c (hu_dv k1 M1 d * 2 ^ q + g) (hu_dl k1 M1 d + q) n0 n1 t0 t1 b ty tl ch pt ∧ u = (nI A, nI T, nI C, nI h, nI c, nI (hu_dv k1 M1 d * 2 ^ q + g), nI (hu_dl k1 M1 d + q), nI d, nI g, nI q, nI e, oc, sw, iz, lz, nd, sn, tx, tn, rg) ∧ v = (nI A, nI T, nI C, nI c, nI (hu_dl k1 M1 d + q), nI e, rl, no, co, ty, tl, ch, pt, we, ro, wh, hv, pr, iw, cd)
def i_Rel (k : Nat) (u : SX) (v : SY) : Prop := hu_R u v
theorem i_up {k : Nat} {u : SX} {v : SY} (h : i_Rel k u v) : i_Rel (k + 3) u v := h
theorem hr_el {P : SX → SY → Prop} {k : Nat} {u : SX} {v : SY} (I : i_Rel k u v) (H : ∀ (A T C c h d g q e n0 n1 M0 M1 : Nat) (t0 t1 b R0 w0 k0 W0 R1 w1 k1 W1 : Nat → Nat) (oc sw iz lz nd sn tx tn rg : Nat → Int32) (rl no co : Int32) (ty tl ch pt we ro wh hv pr iw cd : Nat → Int32), hu_PF A T C c h d g q e n0 n1 M0 M1 t0 t1 b R0 w0 k0 W0 R1 w1 k1 W1 → hu_XA A c h n0 n1 M0 M1 t0 t1 b R0 w0 k0 W0 R1 w1 k1 W1 oc sw iz lz nd sn tx tn rg → hu_YA c (hu_dv k1 M1 d * 2 ^ q + g) (hu_dl k1 M1 d + q) n0 n1 t0 t1 b ty tl ch pt → P (nI A, nI T, nI C, nI h, nI c, nI (hu_dv k1 M1 d * 2 ^ q + g), nI (hu_dl k1 M1 d + q), nI d, nI g, nI q, nI e, oc, sw, iz, lz, nd, sn, tx, tn, rg) (nI A, nI T, nI C, nI c, nI (hu_dl k1 M1 d + q), nI e, rl, no, co, ty, tl, ch, pt, we, ro, wh, hv, pr, iw, cd)) : P u v := by
  obtain ⟨A, T, C, c, h, d, g, q, e, n0, n1, M0, M1, t0, t1, b, R0, w0, k0, W0, R1, w1, k1, W1, oc, sw, iz, lz, nd, sn, tx, tn, rg, rl, no, co, ty, tl, ch, pt, we, ro, wh, hv, pr, iw, cd, pf, xa, ya, rfl, rfl⟩ := I
  exact H A T C c h d g q e n0 n1 M0 M1 t0 t1 b R0 w0 k0 W0 R1 w1 k1 W1 oc sw iz lz nd sn tx tn rg rl no co ty tl ch pt we ro wh hv pr iw cd pf xa ya
theorem hr_in {kk : Nat} (A T C c h d g q e n0 n1 M0 M1 : Nat) (t0 t1 b R0 w0 k0 W0 R1 w1 k1 W1 : Nat → Nat) (oc sw iz lz nd sn tx tn rg : Nat → Int32) (rl no co : Int32) (ty tl ch pt we ro wh hv pr iw cd : Nat → Int32) (pf : hu_PF A T C c h d g q e n0 n1 M0 M1 t0 t1 b R0 w0 k0 W0 R1 w1 k1 W1) (xa : hu_XA A c h n0 n1 M0 M1 t0 t1 b R0 w0 k0 W0 R1 w1 k1 W1 oc sw iz lz nd sn tx tn rg) (ya : hu_YA c (hu_dv k1 M1 d * 2 ^ q + g) (hu_dl k1 M1 d + q) n0 n1 t0 t1 b ty tl ch pt) : i_Rel kk (nI A, nI T, nI C, nI h, nI c, nI (hu_dv k1 M1 d * 2 ^ q + g), nI (hu_dl k1 M1 d + q), nI d, nI g, nI q, nI e, oc, sw, iz, lz, nd, sn, tx, tn, rg) (nI A, nI T, nI C, nI c, nI (hu_dl k1 M1 d + q), nI e, rl, no, co, ty, tl, ch, pt, we, ro, wh, hv, pr, iw, cd) :=
  ⟨A, T, C, c, h, d, g, q, e, n0, n1, M0, M1, t0, t1, b, R0, w0, k0, W0, R1, w1, k1, W1, oc, sw, iz, lz, nd, sn, tx, tn, rg, rl, no, co, ty, tl, ch, pt, we, ro, wh, hv, pr, iw, cd, pf, xa, ya, rfl, rfl⟩
section
variable {A : Nat}
theorem hu_cz_z : ∀ n, hu_cz (fun _ => 0) n = n := by
  intro n
  induction n with
  | zero => rfl
  | succ n ih =>
    show hu_cz (fun _ => 0) n + (if (0 : Nat) = 0 then 1 else 0) = n + 1
    rw [ih, if_pos rfl]
theorem hu_ro_0 (h1 : 2 ≤ A) (h2 : A ≤ 32) : hu_ro A 0 (fun _ => 100) (fun _ => 0) :=
  ⟨h1, h2, fun a b ha hb _ => by omega, fun a ha => by omega, Or.inl ⟨rfl, by omega, by rw [hu_cz_z]; rfl⟩, fun _ _ _ => rfl⟩
theorem hu_CI_0 : hu_CI 0 (fun _ => 100) (fun _ => 0) (fun _ => 0) (fun _ => 0) 0 0 :=
  ⟨⟨rfl, rfl, fun _ _ => Or.inl rfl⟩, fun i _ h => absurd (show (0 : Nat) = 0 + 1 from h) (by decide), fun i h => by omega, fun i h => by omega, fun i _ h => absurd (show (0 : Nat) = 0 + 1 from h) (by decide), fun i _ _ => rfl, by omega, fun h => absurd rfl h, Nat.le_refl _⟩
theorem hu_OK_0 (h1 : 2 ≤ A) (h2 : A ≤ 32) (t : Nat → Nat) : hu_OK A 0 t := by
  refine ⟨fun i hi => by omega, fun i hi => ?_⟩
  have e : i = 0 := by omega
  subst e
  exact ⟨fun _ => 0, fun _ => 0, hu_ro_0 h1 h2, hu_CI_0⟩
theorem hu_PF_0 {T C : Nat} (h1 : 2 ≤ A) (h2 : A ≤ 32) (hT : T ≤ 256) (hC : C ≤ 256) (t0 t1 b : Nat → Nat) : hu_PF A T C 0 0 0 0 0 1 0 0 0 0 t0 t1 b (fun _ => 100) (fun _ => 0) (fun _ => 0) (fun _ => 0) (fun _ => 100) (fun _ => 0) (fun _ => 0) (fun _ => 0) :=
  ⟨hT, hC, by omega, by omega, by omega, by omega, by omega, hu_OK_0 h1 h2 _, rfl, hu_OK_0 h1 h2 _, rfl, fun i hi => by omega, hu_DS0 (hu_ro_0 h1 h2) hu_CI_0.1 hu_CI_0.2.1⟩
variable {eA eT eC rh rc pb pc ds tb tc un : Int32} {oc sw iz lz nd sn tx tn rg : Nat → Int32}
theorem hx_resetSide_44 {post : SX → Prop} {sd : Nat} (hsd : sd < 2)
    (K : ∀ lz' : Nat → Int32, (∀ s, s < 32 → lz' (sd * 32 + s) = 0) → (∀ i, (i < sd * 32 ∨ sd * 32 + 32 ≤ i) → lz' i = lz i) → post (eA, eT, eC, rh, rc, pb, pc, ds, tb, tc, un, oc, sw, iz, lz', nd, sn, tx, tn, rg)) :
    ∀ (e i f : Nat) (lz2 : Nat → Int32), i + e = 32 → e < f → (∀ s, s < i → lz2 (sd * 32 + s) = 0) → (∀ i, (i < sd * 32 ∨ sd * 32 + 32 ≤ i) → lz2 i = lz i) → wX_resetSide_44 post (nI sd) eA eT eC rh rc pb pc ds tb tc un f (nI i) oc sw iz lz2 nd sn tx tn rg := by
  intro e
  induction e with
  | zero =>
    intro i f lz2 hid hf h1 h2
    obtain ⟨f, rfl⟩ : ∃ g, f = g + 1 := ⟨f - 1, by omega⟩
    exact br_t (nI_le (a := 32) (by omega) (by omega)) (K lz2 (fun s hs => h1 s (by omega)) h2)
  | succ e ih =>
    intro i f lz2 hid hf h1 h2
    obtain ⟨f, rfl⟩ : ∃ g, f = g + 1 := ⟨f - 1, by omega⟩
    refine br_f (nI_ge (b := 32) (by omega) (by omega)) ⟨pk_in _ 64 (by omega) (hx_32 sd i), nm_r (e' := upd lz2 (sd * 32 + i) 0) (by rw [hx_c32 hsd (by omega)]) (nm_r (nI_1 i) (ih (i + 1) f _ (by omega) (by omega) ?_ ?_))⟩
    · intro s hs
      by_cases c : s = i
      · rw [c, pk_us]
      · rw [pk_un (by omega)]; exact h1 s (by omega)
    · intro j hj
      rw [pk_un (by omega)]; exact h2 j hj
theorem hx_resetSide {post : SX → Prop} {sd : Nat} (hsd : sd < 2) (h1 : 2 ≤ A) (h2 : A ≤ 32)
    (K : ∀ oc' sw' lz' nd' sn' tn' : Nat → Int32, hu_XT sd A 0 0 (fun _ => 100) (fun _ => 0) (fun _ => 0) (fun _ => 0) oc' sw' iz lz' nd' sn' → hu_fr sd oc sw iz lz oc' sw' iz lz' → (∀ i, i ≠ sd → nd' i = nd i ∧ sn' i = sn i) → tn' sd = nI 0 → (∀ i, i ≠ sd → tn' i = tn i) →
      post (eA, eT, eC, rh, rc, pb, pc, ds, tb, tc, un, oc', sw', iz, lz', nd', sn', tx, tn', rg)) : wpX_resetSide post (eA, eT, eC, rh, rc, pb, pc, ds, tb, tc, un, oc, sw, iz, lz, nd, sn, tx, tn, rg) (nI sd) := by
  have csd : (nI sd).toNatClampNeg = sd := nI_clamp (by omega)
  have in2 : vp_in (nI sd) 2 := vp_in_nI hsd (by omega)
  refine ⟨in2, nm_r (e' := upd tn sd 0) (by rw [csd]) ⟨in2, nm_r (e' := upd sn sd 0) (by rw [csd]) ⟨in2, nm_r (e' := upd nd sd 1) (by rw [csd]) ⟨pk_in _ 144 (by omega) (hx_m72 sd), nm_r (e' := upd oc (sd * 72 + 0) 100) (by rw [hx_m72, nI_clamp (by omega)]; rfl) ⟨pk_in _ 144 (by omega) (hx_m72 sd), nm_r (e' := upd sw (sd * 72 + 0) 0) (by rw [hx_m72, nI_clamp (by omega)]; rfl) ⟨33, ?_⟩⟩⟩⟩⟩⟩
  refine hx_resetSide_44 (lz := lz) hsd ?_ 32 0 33 lz (by omega) (by omega) (fun s hs => by omega) (fun _ _ => rfl)
  intro lz' z1 z2
  refine K _ _ lz' _ _ _ ⟨hu_ro_0 h1 h2, hu_CI_0, ⟨fun i _ h => absurd (show (0 : Nat) = 0 + 1 from h) (by decide), fun i hi _ => ?_, fun s hs _ => z1 s hs, fun i hi => ?_⟩, pk_us, ?_⟩ ?_ ?_ pk_us (fun i hi => pk_un hi)
  · have e : i = 0 := by omega
    subst e
    rw [pk_us]
    exact ⟨rfl, fun z => absurd z (by decide)⟩
  · have e : i = 0 := by omega
    subst e
    rw [pk_us]
    rfl
  · rw [pk_us, hu_cz_z, Nat.sub_self]
    rfl
  · have f := hu_fr_sw (hu_fr_oc (hu_fr_r (sd := sd) (oc := oc) (sw := sw) (iz := iz) (lz := lz)) (p := 0) (by omega) 100) (p := 0) (by omega) 0
    exact ⟨f.1, f.2.1, f.2.2.1, z2⟩
  · intro i hi
    rw [pk_un hi, pk_un hi]
    exact ⟨rfl, rfl⟩
theorem hx_reset {post : SX → Prop} (h1 : 2 ≤ A) (h2 : A ≤ 32) (b : Nat → Nat)
    (K : ∀ oc' sw' lz' nd' sn' tn' : Nat → Int32, hu_XA A 0 0 0 0 0 0 (fun _ => 0) (fun _ => 0) b (fun _ => 100) (fun _ => 0) (fun _ => 0) (fun _ => 0) (fun _ => 100) (fun _ => 0) (fun _ => 0) (fun _ => 0) oc' sw' iz lz' nd' sn' tx tn' rg →
      post (eA, eT, eC, 0, 0, 0, 0, 0, 0, 0, 1, oc', sw', iz, lz', nd', sn', tx, tn', rg)) : wpX_reset post (eA, eT, eC, rh, rc, pb, pc, ds, tb, tc, un, oc, sw, iz, lz, nd, sn, tx, tn, rg) := by
  unfold wpX_reset
  refine hx_resetSide (sd := 0) (A := A) (by omega) h1 h2 ?_
  intro oc1 sw1 lz1 nd1 sn1 tn1 a1 a2 a3 a4 a5
  refine hx_resetSide (sd := 1) (A := A) (by omega) h1 h2 ?_
  intro oc2 sw2 lz2 nd2 sn2 tn2 b1 b2 b3 b4 b5
  refine K oc2 sw2 lz2 nd2 sn2 tn2 ⟨hu_XT_fr a1 b2 b3 (by omega), b1, ?_, b4, fun i hi => by omega, fun i hi => by omega, fun i hi => by omega⟩
  rw [b5 0 (by omega)]
  exact a4
end
theorem i_vc_reset {k : Nat} {u : SX} {v : SY} (I : i_Rel k u v) (hk : k + 3 ≤ 1539) : wpX_reset (fun u' => wpY_reset (fun v' => i_Rel (k + 3) u' v') v) u := by
  refine hr_el (P := fun u v => wpX_reset (fun u' => wpY_reset (fun v' => i_Rel (k + 3) u' v') v) u) I ?_
  intro A T C c h d g q e n0 n1 M0 M1 t0 t1 b R0 w0 k0 W0 R1 w1 k1 W1 oc sw iz lz nd sn tx tn rg rl no co ty tl ch pt we ro wh hv pr iw cd pf xa ya
  refine hx_reset xa.1.1.1 xa.1.1.2.1 b ?_
  intro oc' sw' lz' nd' sn' tn' X'
  refine nm_e (nm_e ?_)
  exact hr_in A T C 0 0 0 0 0 1 0 0 0 0 _ _ _ _ _ _ _ _ _ _ _ oc' sw' iz lz' nd' sn' tx tn' rg rl no co ty _ ch pt we ro wh hv pr iw cd (hu_PF_0 xa.1.1.1 xa.1.1.2.1 pf.1 pf.2.1 _ _ _) X' ⟨rfl, rfl, fun i hi => by omega, fun i hi => by omega, fun i hi => by omega, fun i hi => absurd (show i < 0 from hi) (Nat.not_lt_zero i)⟩
/-- a clamped argument, as both sides find it -/
theorem hr_clamp (x : Int32) {lo hi : Nat} (h : lo ≤ hi) (hh : hi < 1000) : ∃ n : Nat, lo ≤ n ∧ n ≤ hi ∧ (∀ (post : Int32 → Prop) (u : SX), post (nI n) → wpX_clamp post u x (nI lo) (nI hi))
    ∧ (∀ (Q : Int32 → Prop), Q (nI n) → ((nI lo ≤ x → ((x ≤ nI hi → Q x) ∧ (¬ x ≤ nI hi → Q (nI hi)))) ∧ (¬ nI lo ≤ x → ((nI lo ≤ nI hi → Q (nI lo)) ∧ (¬ nI lo ≤ nI hi → Q (nI hi)))))) := by
  by_cases c : nI lo ≤ x
  · have x0 : ¬ x < 0 := by
      intro z
      have y := Int32.lt_of_le_of_lt c z
      exact nI_pos (by omega) y
    obtain ⟨j, hj, rfl⟩ := nI_of x0
    have lj := (nI_leI (by omega) hj).mp c
    by_cases d : nI j ≤ nI hi
    · have jh := (nI_leI hj (by omega)).mp d
      exact ⟨j, lj, jh, fun post u H => br_t c (br_t d H), fun Q H => br_t c (br_t d H)⟩
    · exact ⟨hi, h, Nat.le_refl _, fun post u H => br_t c (br_f d H), fun Q H => br_t c (br_f d H)⟩
  · exact ⟨lo, Nat.le_refl _, h, fun post u H => br_f c H, fun Q H => br_f c (br_t (nI_le h (by omega)) H)⟩
theorem i_vc0 (k0 : Int32) (k1 : Int32) (k2 : Int32) : wpX_init (fun u => wpY_init (fun v => i_Rel 3 u v) k0 k1 k2) k0 k1 k2 := by
  obtain ⟨A, a1, a2, a3, a4⟩ := hr_clamp k0 (lo := 2) (hi := 32) (by omega) (by omega)
  obtain ⟨T, b1, b2, b3, b4⟩ := hr_clamp k1 (lo := 8) (hi := 256) (by omega) (by omega)
  obtain ⟨C, c1, c2, c3, c4⟩ := hr_clamp k2 (lo := 32) (hi := 256) (by omega) (by omega)
  unfold wpX_init
  refine a3 _ _ ?_
  refine b3 _ _ ?_
  refine c3 _ _ ?_
  refine hx_reset a1 a2 (fun _ => 0) ?_
  intro oc' sw' lz' nd' sn' tn' X'
  refine a4 (fun z => wY_init_127 _ k1 k2 z 0 0 0 0 0 0 0 0 (fun _ => 0) (fun _ => 0) (fun _ => 0) (fun _ => 0) (fun _ => 0) (fun _ => 0) (fun _ => 0) (fun _ => 0) (fun _ => 0) (fun _ => 0) (fun _ => 0)) ?_
  refine b4 (fun z => wY_init_164 _ k2 (nI A) z 0 0 0 0 0 0 0 (fun _ => 0) (fun _ => 0) (fun _ => 0) (fun _ => 0) (fun _ => 0) (fun _ => 0) (fun _ => 0) (fun _ => 0) (fun _ => 0) (fun _ => 0) (fun _ => 0)) ?_
  refine c4 (fun z => i_Rel 3 _ (nI A, nI T, z, 0, 0, 1, 0, 0, 0, (fun _ => 0), (fun _ => 0), (fun _ => 0), (fun _ => 0), (fun _ => 0), (fun _ => 0), (fun _ => 0), (fun _ => 0), (fun _ => 0), (fun _ => 0), (fun _ => 0))) ?_
  exact hr_in A T C 0 0 0 0 0 1 0 0 0 0 _ _ _ _ _ _ _ _ _ _ _ oc' sw' _ lz' nd' sn' _ tn' _ 0 0 0 _ _ _ _ _ _ _ _ _ _ _ (hu_PF_0 a1 a2 b2 c2 _ _ _) X' ⟨rfl, rfl, fun i hi => by omega, fun i hi => by omega, fun i hi => by omega, fun i hi => absurd (show i < 0 from hi) (Nat.not_lt_zero i)⟩
end
section
/-! calls that read; flip -/
section
variable {A : Nat}
variable {eA eT eC rh rc pb pc ds tb tc un : Int32} {oc sw iz lz nd sn tx tn rg : Nat → Int32}
theorem hr_side (x : Int32) : x = nI 0 ∨ x = nI 1 ∨ (¬ x = 0 ∧ ¬ x = 1) := by
  by_cases a : x = 0
  · exact Or.inl a
  · by_cases b : x = 1
    · exact Or.inr (Or.inl b)
    · exact Or.inr (Or.inr ⟨a, b⟩)
theorem hx_badSide_ok {post : Int32 → Prop} {sd : Nat} (hsd : sd < 2) (H : post 0) : wpX_badSide post (eA, eT, eC, rh, rc, pb, pc, ds, tb, tc, un, oc, sw, iz, lz, nd, sn, tx, tn, rg) (nI sd) := by
  rcases (by omega : sd = 0 ∨ sd = 1) with c | c
  · subst c; exact br_t rfl H
  · subst c; exact br_f (by decide) (br_t rfl H)
theorem hx_badSide_no {post : Int32 → Prop} {x : Int32} (h : ¬ x = 0 ∧ ¬ x = 1) (H : post 1) : wpX_badSide post (eA, eT, eC, rh, rc, pb, pc, ds, tb, tc, un, oc, sw, iz, lz, nd, sn, tx, tn, rg) x := br_f h.1 (br_f h.2 H)
end
section
variable {yA yT yC cl pl cf rl no co : Int32} {ty tl ch pt we ro wh hv pr iw cd : Nat → Int32}
theorem hy_badSide_ok {post : Int32 → Prop} {sd : Nat} (hsd : sd < 2) (H : post 0) : wpY_badSide post (yA, yT, yC, cl, pl, cf, rl, no, co, ty, tl, ch, pt, we, ro, wh, hv, pr, iw, cd) (nI sd) := by
  rcases (by omega : sd = 0 ∨ sd = 1) with c | c
  · subst c; exact br_t rfl H
  · subst c; exact br_f (by decide) (br_t rfl H)
theorem hy_badSide_no {post : Int32 → Prop} {x : Int32} (h : ¬ x = 0 ∧ ¬ x = 1) (H : post 1) : wpY_badSide post (yA, yT, yC, cl, pl, cf, rl, no, co, ty, tl, ch, pt, we, ro, wh, hv, pr, iw, cd) x := br_f h.1 (br_f h.2 H)
/-- one side of both -/
def hu_S (sd A n M : Nat) (t R wt k W : Nat → Nat) (oc sw iz lz nd sn tx tn ty tl : Nat → Int32) : Prop :=
  hu_XT sd A n M R wt k W oc sw iz lz nd sn ∧ tn sd = nI n ∧ (∀ i, i < n → tx (sd * 256 + i) = nI (t i)) ∧ tl sd = nI n ∧ (∀ i, i < n → ty (sd * 256 + i) = nI (t i)) ∧ hu_OK A n t ∧ hu_rp A t n = (M, R, wt) ∧ n ≤ 256
theorem hr_S0 {A T C c h d g q e n0 n1 M0 M1 : Nat} {t0 t1 b R0 w0 k0 W0 R1 w1 k1 W1 : Nat → Nat} {oc sw iz lz nd sn tx tn rg : Nat → Int32} {ty tl ch pt : Nat → Int32} (pf : hu_PF A T C c h d g q e n0 n1 M0 M1 t0 t1 b R0 w0 k0 W0 R1 w1 k1 W1) (xa : hu_XA A c h n0 n1 M0 M1 t0 t1 b R0 w0 k0 W0 R1 w1 k1 W1 oc sw iz lz nd sn tx tn rg) (ya : hu_YA c (hu_dv k1 M1 d * 2 ^ q + g) (hu_dl k1 M1 d + q) n0 n1 t0 t1 b ty tl ch pt) : hu_S 0 A n0 M0 t0 R0 w0 k0 W0 oc sw iz lz nd sn tx tn ty tl :=
  ⟨xa.1, xa.2.2.1, xa.2.2.2.2.1, ya.1, ya.2.2.1, pf.2.2.2.2.2.2.2.1, pf.2.2.2.2.2.2.2.2.1, by have := pf.1; have := pf.2.2.2.2.2.1; omega⟩
theorem hr_S1 {A T C c h d g q e n0 n1 M0 M1 : Nat} {t0 t1 b R0 w0 k0 W0 R1 w1 k1 W1 : Nat → Nat} {oc sw iz lz nd sn tx tn rg : Nat → Int32} {ty tl ch pt : Nat → Int32} (pf : hu_PF A T C c h d g q e n0 n1 M0 M1 t0 t1 b R0 w0 k0 W0 R1 w1 k1 W1) (xa : hu_XA A c h n0 n1 M0 M1 t0 t1 b R0 w0 k0 W0 R1 w1 k1 W1 oc sw iz lz nd sn tx tn rg) (ya : hu_YA c (hu_dv k1 M1 d * 2 ^ q + g) (hu_dl k1 M1 d + q) n0 n1 t0 t1 b ty tl ch pt) : hu_S 1 A n1 M1 t1 R1 w1 k1 W1 oc sw iz lz nd sn tx tn ty tl :=
  ⟨xa.2.1, xa.2.2.2.1, xa.2.2.2.2.2.1, ya.2.1, ya.2.2.2.1, pf.2.2.2.2.2.2.2.2.2.1, pf.2.2.2.2.2.2.2.2.2.2.1, by have := pf.1; have := pf.2.2.2.2.2.2.1; omega⟩
end
theorem i_vc_clean {k : Nat} {u : SX} {v : SY} (I : i_Rel k u v) (hk : k + 3 ≤ 1539) : wpX_clean (fun r => wpY_clean (fun r' => r' = r ∧ i_Rel (k + 3) u v) v) u := by
  refine hr_el (P := fun u v => wpX_clean (fun r => wpY_clean (fun r' => r' = r ∧ i_Rel (k + 3) u v) v) u) I ?_
  intro A T C c h d g q e n0 n1 M0 M1 t0 t1 b R0 w0 k0 W0 R1 w1 k1 W1 oc sw iz lz nd sn tx tn rg rl no co ty tl ch pt we ro wh hv pr iw cd pf xa ya
  have R : i_Rel (k + 3) (nI A, nI T, nI C, nI h, nI c, nI (hu_dv k1 M1 d * 2 ^ q + g), nI (hu_dl k1 M1 d + q), nI d, nI g, nI q, nI e, oc, sw, iz, lz, nd, sn, tx, tn, rg) (nI A, nI T, nI C, nI c, nI (hu_dl k1 M1 d + q), nI e, rl, no, co, ty, tl, ch, pt, we, ro, wh, hv, pr, iw, cd) := hr_in A T C c h d g q e n0 n1 M0 M1 t0 t1 b R0 w0 k0 W0 R1 w1 k1 W1 oc sw iz lz nd sn tx tn rg rl no co ty tl ch pt we ro wh hv pr iw cd pf xa ya
  have nb : narrow .boolean (.int (nI e)) = .int (nI e) := by
    have e2 := pf.2.2.2.2.1
    rcases (by omega : e = 0 ∨ e = 1) with z | z
    · subst z; rfl
    · subst z; rfl
  exact ⟨nb, nb, rfl, R⟩
theorem i_vc_limit {k : Nat} {u : SX} {v : SY} (I : i_Rel k u v) (hk : k + 3 ≤ 1539) (v1 : Int32) : wpX_limit (fun r => wpY_limit (fun r' => r' = r ∧ i_Rel (k + 3) u v) v v1) u v1 := by
  refine hr_el (P := fun u v => wpX_limit (fun r => wpY_limit (fun r' => r' = r ∧ i_Rel (k + 3) u v) v v1) u v1) I ?_
  intro A T C c h d g q e n0 n1 M0 M1 t0 t1 b R0 w0 k0 W0 R1 w1 k1 W1 oc sw iz lz nd sn tx tn rg rl no co ty tl ch pt we ro wh hv pr iw cd pf xa ya
  have R : i_Rel (k + 3) (nI A, nI T, nI C, nI h, nI c, nI (hu_dv k1 M1 d * 2 ^ q + g), nI (hu_dl k1 M1 d + q), nI d, nI g, nI q, nI e, oc, sw, iz, lz, nd, sn, tx, tn, rg) (nI A, nI T, nI C, nI c, nI (hu_dl k1 M1 d + q), nI e, rl, no, co, ty, tl, ch, pt, we, ro, wh, hv, pr, iw, cd) := hr_in A T C c h d g q e n0 n1 M0 M1 t0 t1 b R0 w0 k0 W0 R1 w1 k1 W1 oc sw iz lz nd sn tx tn rg rl no co ty tl ch pt we ro wh hv pr iw cd pf xa ya
  by_cases a : v1 = 0
  · exact br_t a (br_t a ⟨rfl, R⟩)
  · by_cases b1 : v1 = 1
    · exact br_f a (br_t b1 (br_f a (br_t b1 ⟨rfl, R⟩)))
    · by_cases c1 : v1 = 2
      · exact br_f a (br_f b1 (br_t c1 (br_f a (br_f b1 (br_t c1 ⟨rfl, R⟩)))))
      · exact br_f a (br_f b1 (br_f c1 (br_f a (br_f b1 (br_f c1 ⟨rfl, R⟩)))))
theorem i_vc_pending {k : Nat} {u : SX} {v : SY} (I : i_Rel k u v) (hk : k + 3 ≤ 1539) : wpX_pending (fun r => wpY_pending (fun r' => r' = r ∧ i_Rel (k + 3) u v) v) u := by
  refine hr_el (P := fun u v => wpX_pending (fun r => wpY_pending (fun r' => r' = r ∧ i_Rel (k + 3) u v) v) u) I ?_
  intro A T C c h d g q e n0 n1 M0 M1 t0 t1 b R0 w0 k0 W0 R1 w1 k1 W1 oc sw iz lz nd sn tx tn rg rl no co ty tl ch pt we ro wh hv pr iw cd pf xa ya
  exact ⟨rfl, hr_in A T C c h d g q e n0 n1 M0 M1 t0 t1 b R0 w0 k0 W0 R1 w1 k1 W1 oc sw iz lz nd sn tx tn rg rl no co ty tl ch pt we ro wh hv pr iw cd pf xa ya⟩
theorem i_vc_partialLength {k : Nat} {u : SX} {v : SY} (I : i_Rel k u v) (hk : k + 3 ≤ 1539) : wpX_partialLength (fun r => wpY_partialLength (fun r' => r' = r ∧ i_Rel (k + 3) u v) v) u := by
  refine hr_el (P := fun u v => wpX_partialLength (fun r => wpY_partialLength (fun r' => r' = r ∧ i_Rel (k + 3) u v) v) u) I ?_
  intro A T C c h d g q e n0 n1 M0 M1 t0 t1 b R0 w0 k0 W0 R1 w1 k1 W1 oc sw iz lz nd sn tx tn rg rl no co ty tl ch pt we ro wh hv pr iw cd pf xa ya
  exact ⟨rfl, hr_in A T C c h d g q e n0 n1 M0 M1 t0 t1 b R0 w0 k0 W0 R1 w1 k1 W1 oc sw iz lz nd sn tx tn rg rl no co ty tl ch pt we ro wh hv pr iw cd pf xa ya⟩
/-- a fold of bits is their number -/
theorem hb_fold {P l i : Nat} (hi : i < l) : P / 2 ^ (l - i) * 2 + P / 2 ^ (l - 1 - i) % 2 = P / 2 ^ (l - (i + 1)) := by
  have e : l - i = (l - 1 - i) + 1 := by omega
  have e2 : l - (i + 1) = l - 1 - i := by omega
  rw [e, e2, Nat.pow_succ, ← Nat.div_div_eq_div_mul]
  omega
theorem hb_foldI {P l i : Nat} (hi : i < l) : nI (P / 2 ^ (l - i)) * 2 + nI (P / 2 ^ (l - 1 - i) % 2) = nI (P / 2 ^ (l - (i + 1))) := by
  rw [show (2 : Int32) = nI 2 from rfl, pk_mul, nI_add, hb_fold hi]
section
variable {P l : Nat}
variable {yA yT yC cl pl cf rl no co : Int32} {ty tl ch pt we ro wh hv pr iw cd : Nat → Int32}
theorem hy_pv_4 {post : Int32 → Prop} (hl : l ≤ 31) (B : hu_BT P l pt) (H : post (nI P)) : ∀ (e i f : Nat), i + e = l → e < f → wY_partialValue_4 post yA yT yC cl (nI l) cf rl no co ty tl ch pt we ro wh hv pr iw cd f (nI (P / 2 ^ (l - i))) (nI i) := by
  intro e
  induction e with
  | zero =>
    intro i f hid hf
    obtain ⟨f, rfl⟩ : ∃ g, f = g + 1 := ⟨f - 1, by omega⟩
    have e : i = l := by omega
    subst e
    rw [Nat.sub_self, Nat.pow_zero, Nat.div_one]
    exact br_t (nI_le (Nat.le_refl _) (by omega)) H
  | succ e ih =>
    intro i f hid hf
    obtain ⟨f, rfl⟩ : ∃ g, f = g + 1 := ⟨f - 1, by omega⟩
    refine br_f (nI_ge (by omega) (by omega)) ⟨vp_in_nI (by omega) (by omega), ?_⟩
    rw [nI_clamp (by omega), B i (by omega)]
    exact nm_r (hb_foldI (by omega)) (nm_r (nI_1 i) (ih (i + 1) f (by omega) (by omega)))
theorem hy_partialValue {post : Int32 → Prop} (hl : l ≤ 31) (hP : P < 2 ^ l) (B : hu_BT P l pt) (H : post (nI P)) : wpY_partialValue post (yA, yT, yC, cl, nI l, cf, rl, no, co, ty, tl, ch, pt, we, ro, wh, hv, pr, iw, cd) := by
  have x := hy_pv_4 (yA := yA) (yT := yT) (yC := yC) (cl := cl) (cf := cf) (rl := rl) (no := no) (co := co) (ty := ty) (tl := tl) (ch := ch) (we := we) (ro := ro) (wh := wh) (hv := hv) (pr := pr) (iw := iw) (cd := cd) hl B H l 0 (l + 1) (by omega) (by omega)
  rw [Nat.sub_zero, Nat.div_eq_of_lt hP] at x
  exact ⟨l + 1, x⟩
end
theorem i_vc_partialValue {k : Nat} {u : SX} {v : SY} (I : i_Rel k u v) (hk : k + 3 ≤ 1539) : wpX_partialValue (fun r => wpY_partialValue (fun r' => r' = r ∧ i_Rel (k + 3) u v) v) u := by
  refine hr_el (P := fun u v => wpX_partialValue (fun r => wpY_partialValue (fun r' => r' = r ∧ i_Rel (k + 3) u v) v) u) I ?_
  intro A T C c h d g q e n0 n1 M0 M1 t0 t1 b R0 w0 k0 W0 R1 w1 k1 W1 oc sw iz lz nd sn tx tn rg rl no co ty tl ch pt we ro wh hv pr iw cd pf xa ya
  have D := pf.2.2.2.2.2.2.2.2.2.2.2.2
  have I1 := xa.2.1
  have dl := hu_DS_l I1.1 I1.2.1.1 I1.2.1.2.1 D
  exact hy_partialValue (by omega) (hu_pw_add (hu_dv_lt I1.2.1.1 I1.2.1.2.1 _ _ (Nat.le_refl _) D.1) D.2.1) ya.2.2.2.2.2 ⟨rfl, hr_in A T C c h d g q e n0 n1 M0 M1 t0 t1 b R0 w0 k0 W0 R1 w1 k1 W1 oc sw iz lz nd sn tx tn rg rl no co ty tl ch pt we ro wh hv pr iw cd pf xa ya⟩
theorem i_vc_channelBit {k : Nat} {u : SX} {v : SY} (I : i_Rel k u v) (hk : k + 3 ≤ 1539) (v1 : Int32) : wpX_channelBit (fun r => wpY_channelBit (fun r' => r' = r ∧ i_Rel (k + 3) u v) v v1) u v1 := by
  refine hr_el (P := fun u v => wpX_channelBit (fun r => wpY_channelBit (fun r' => r' = r ∧ i_Rel (k + 3) u v) v v1) u v1) I ?_
  intro A T C c h d g q e n0 n1 M0 M1 t0 t1 b R0 w0 k0 W0 R1 w1 k1 W1 oc sw iz lz nd sn tx tn rg rl no co ty tl ch pt we ro wh hv pr iw cd pf xa ya
  have R : i_Rel (k + 3) (nI A, nI T, nI C, nI h, nI c, nI (hu_dv k1 M1 d * 2 ^ q + g), nI (hu_dl k1 M1 d + q), nI d, nI g, nI q, nI e, oc, sw, iz, lz, nd, sn, tx, tn, rg) (nI A, nI T, nI C, nI c, nI (hu_dl k1 M1 d + q), nI e, rl, no, co, ty, tl, ch, pt, we, ro, wh, hv, pr, iw, cd) := hr_in A T C c h d g q e n0 n1 M0 M1 t0 t1 b R0 w0 k0 W0 R1 w1 k1 W1 oc sw iz lz nd sn tx tn rg rl no co ty tl ch pt we ro wh hv pr iw cd pf xa ya
  have c1 := pf.2.1
  have c2 := pf.2.2.1
  have h1 := pf.2.2.2.1
  rcases pk_ix v1 (n := c) (by omega) with x | x | ⟨j, hj, rfl⟩
  · exact br_t x (br_t x ⟨rfl, R⟩)
  · have n0' : ¬ v1 < 0 := fun z => nI_pos (by omega) (Int32.lt_of_le_of_lt x z)
    have n1' : ¬ v1 < nI c := Int32.not_lt.mpr x
    exact br_f n0' (br_f n1' (br_f n0' (br_f n1' ⟨rfl, R⟩)))
  · have e1 : (nI h + nI j) &&& 255 = nI ((h + j) % 256) := by rw [nI_add, hb_255 (by omega)]
    have p0 : ¬ nI j < 0 := nI_pos (by omega)
    have p1 : nI j < nI c := nI_lt hj (by omega)
    refine br_f p0 (br_t p1 ⟨pk_in _ 256 (by omega) e1, br_f p0 (br_t p1 ⟨vp_in_nI (by omega) (by omega), ?_, R⟩)⟩)
    rw [e1, nI_clamp (by omega), nI_clamp (by omega), xa.2.2.2.2.2.2 j hj, ya.2.2.2.2.1 j hj]
theorem i_vc_flip {k : Nat} {u : SX} {v : SY} (I : i_Rel k u v) (hk : k + 3 ≤ 1539) (v1 : Int32) : wpX_flip (fun r u' => wpY_flip (fun r' v' => r' = r ∧ i_Rel (k + 3) u' v') v v1) u v1 := by
  refine hr_el (P := fun u v => wpX_flip (fun r u' => wpY_flip (fun r' v' => r' = r ∧ i_Rel (k + 3) u' v') v v1) u v1) I ?_
  intro A T C c h d g q e n0 n1 M0 M1 t0 t1 b R0 w0 k0 W0 R1 w1 k1 W1 oc sw iz lz nd sn tx tn rg rl no co ty tl ch pt we ro wh hv pr iw cd pf xa ya
  have R : i_Rel (k + 3) (nI A, nI T, nI C, nI h, nI c, nI (hu_dv k1 M1 d * 2 ^ q + g), nI (hu_dl k1 M1 d + q), nI d, nI g, nI q, nI e, oc, sw, iz, lz, nd, sn, tx, tn, rg) (nI A, nI T, nI C, nI c, nI (hu_dl k1 M1 d + q), nI e, rl, no, co, ty, tl, ch, pt, we, ro, wh, hv, pr, iw, cd) := hr_in A T C c h d g q e n0 n1 M0 M1 t0 t1 b R0 w0 k0 W0 R1 w1 k1 W1 oc sw iz lz nd sn tx tn rg rl no co ty tl ch pt we ro wh hv pr iw cd pf xa ya
  have c1 := pf.2.1
  have c2 := pf.2.2.1
  have h1 := pf.2.2.2.1
  rcases pk_ix v1 (n := c) (by omega) with x | x | ⟨j, hj, rfl⟩
  · exact br_t x (br_t x ⟨rfl, R⟩)
  · have n0' : ¬ v1 < 0 := fun z => nI_pos (by omega) (Int32.lt_of_le_of_lt x z)
    have n1' : ¬ v1 < nI c := Int32.not_lt.mpr x
    exact br_f n0' (br_f n1' (br_f n0' (br_f n1' ⟨rfl, R⟩)))
  · have e1 : (nI h + nI j) &&& 255 = nI ((h + j) % 256) := by rw [nI_add, hb_255 (by omega)]
    have p0 : ¬ nI j < 0 := nI_pos (by omega)
    have p1 : nI j < nI c := nI_lt hj (by omega)
    have bj := pf.2.2.2.2.2.2.2.2.2.2.2.1 j hj
    have es : (1 : Int32) - nI (b j) = nI (1 - b j) := pk_sub (a := 1) (by omega)
    have cj : (nI j).toNatClampNeg = j := nI_clamp (by omega)
    have inX : vp_in (nI ((h + j) % 256)) 256 := vp_in_nI (by omega) (by omega)
    have inY : vp_in (nI j) 256 := vp_in_nI (by omega) (by omega)
    refine br_f p0 (br_t p1 (nm_r e1 ⟨inX, nm_r (e' := nI (1 - b j)) (by rw [nI_clamp (by omega), xa.2.2.2.2.2.2 j hj, es]) ⟨inX, nm_r (e' := upd rg ((h + j) % 256) (nI (1 - b j))) (by rw [nI_clamp (by omega), hb_nar (by omega)]) ?_⟩⟩))
    refine br_f p0 (br_t p1 ⟨inY, inY, nm_r (e' := upd ch j (nI (1 - b j))) (by rw [cj, ya.2.2.2.2.1 j hj, es]) ⟨inY, by rw [cj, pk_us], ?_⟩⟩)
    obtain ⟨f1, f2, f3, f4, f5, f6, f7, f8, f9, f10, f11, f12, f13⟩ := pf
    obtain ⟨x1, x2, x3, x4, x5, x6, x7⟩ := xa
    obtain ⟨y1, y2, y3, y4, y5, y6⟩ := ya
    refine hr_in A T C c h d g q 0 n0 n1 M0 M1 t0 t1 (hu_up b j (1 - b j)) R0 w0 k0 W0 R1 w1 k1 W1 oc sw iz lz nd sn tx tn _ rl no co ty tl _ pt we ro wh hv pr iw cd ⟨f1, f2, f3, f4, by omega, f6, f7, f8, f9, f10, f11, fun i hi => ?_, f13⟩ ⟨x1, x2, x3, x4, x5, x6, fun i hi => ?_⟩ ⟨y1, y2, y3, y4, fun i hi => ?_, y6⟩
    · by_cases z : i = j
      · rw [z, hu_up_s]; omega
      · rw [hu_up_n z]; exact f12 i hi
    · by_cases z : i = j
      · rw [z, hu_up_s, pk_us]
      · rw [hu_up_n z, pk_un (by omega)]; exact x7 i hi
    · by_cases z : i = j
      · rw [z, hu_up_s, pk_us]
      · rw [hu_up_n z, pk_un z]; exact y5 i hi
section
variable {A T C c h d g q e n0 n1 M0 M1 sd n M : Nat} {t0 t1 b R0 w0 k0 W0 R1 w1 k1 W1 t R wt kk W : Nat → Nat}
variable {eA eT eC rh rc pb pc ds tb tc un : Int32} {oc sw iz lz nd sn tx tn rg : Nat → Int32}
variable {yA yT yC cl pl cf rl no co : Int32} {ty tl ch pt we ro wh hv pr iw cd : Nat → Int32}
theorem hm_textLength {Q : Prop} (S : hu_S sd A n M t R wt kk W oc sw iz lz nd sn tx tn ty tl) (hsd : sd < 2) (H : Q) : wpX_textLength (fun r => wpY_textLength (fun r' => r' = r ∧ Q) (yA, yT, yC, cl, pl, cf, rl, no, co, ty, tl, ch, pt, we, ro, wh, hv, pr, iw, cd) (nI sd)) (eA, eT, eC, rh, rc, pb, pc, ds, tb, tc, un, oc, sw, iz, lz, nd, sn, tx, tn, rg) (nI sd) := by
  have csd : (nI sd).toNatClampNeg = sd := nI_clamp (by omega)
  unfold wpX_textLength
  refine hx_badSide_ok hsd ?_
  refine br_t rfl ⟨vp_in_nI hsd (by omega), ?_⟩
  unfold wpY_textLength
  refine hy_badSide_ok hsd ?_
  refine br_t rfl ⟨vp_in_nI hsd (by omega), ?_, H⟩
  rw [csd, S.2.1, S.2.2.2.1]
theorem hm_textAt {Q : Prop} {v2 : Int32} (S : hu_S sd A n M t R wt kk W oc sw iz lz nd sn tx tn ty tl) (hsd : sd < 2) (H : Q) : wpX_textAt (fun r => wpY_textAt (fun r' => r' = r ∧ Q) (yA, yT, yC, cl, pl, cf, rl, no, co, ty, tl, ch, pt, we, ro, wh, hv, pr, iw, cd) (nI sd) v2) (eA, eT, eC, rh, rc, pb, pc, ds, tb, tc, un, oc, sw, iz, lz, nd, sn, tx, tn, rg) (nI sd) v2 := by
  have csd : (nI sd).toNatClampNeg = sd := nI_clamp (by omega)
  have in2 : vp_in (nI sd) 2 := vp_in_nI hsd (by omega)
  have n256 := S.2.2.2.2.2.2.2
  unfold wpX_textAt
  refine hx_badSide_ok hsd ?_
  refine br_t rfl ?_
  rw [csd, S.2.1]
  unfold wpY_textAt
  rcases pk_ix v2 (n := n) (by omega) with x | x | ⟨j, hj, rfl⟩
  · refine br_t x ?_
    refine hy_badSide_ok hsd ?_
    exact br_t rfl (br_t x ⟨rfl, H⟩)
  · have n0' : ¬ v2 < 0 := fun z => nI_pos (by omega) (Int32.lt_of_le_of_lt x z)
    have n1' : ¬ v2 < nI n := Int32.not_lt.mpr x
    refine br_f n0' ⟨in2, br_f n1' ?_⟩
    refine hy_badSide_ok hsd ?_
    refine br_t rfl ?_
    rw [csd, S.2.2.2.1]
    exact br_f n0' ⟨in2, br_f n1' ⟨rfl, H⟩⟩
  · have p0 : ¬ nI j < 0 := nI_pos (by omega)
    have p1 : nI j < nI n := nI_lt hj (by omega)
    refine br_f p0 ⟨in2, br_t p1 ⟨pk_in _ 512 (by omega) (hx_256 sd j), ?_⟩⟩
    refine hy_badSide_ok hsd ?_
    refine br_t rfl ?_
    rw [csd, S.2.2.2.1]
    refine br_f p0 ⟨in2, br_t p1 ⟨pk_in _ 512 (by omega) (hx_256 sd j), ?_, H⟩⟩
    rw [hx_c256 hsd (by omega), S.2.2.1 j hj, S.2.2.2.2.1 j hj]
end
theorem i_vc_textLength {k : Nat} {u : SX} {v : SY} (I : i_Rel k u v) (hk : k + 3 ≤ 1539) (v1 : Int32) : wpX_textLength (fun r => wpY_textLength (fun r' => r' = r ∧ i_Rel (k + 3) u v) v v1) u v1 := by
  refine hr_el (P := fun u v => wpX_textLength (fun r => wpY_textLength (fun r' => r' = r ∧ i_Rel (k + 3) u v) v v1) u v1) I ?_
  intro A T C c h d g q e n0 n1 M0 M1 t0 t1 b R0 w0 k0 W0 R1 w1 k1 W1 oc sw iz lz nd sn tx tn rg rl no co ty tl ch pt we ro wh hv pr iw cd pf xa ya
  have R : i_Rel (k + 3) (nI A, nI T, nI C, nI h, nI c, nI (hu_dv k1 M1 d * 2 ^ q + g), nI (hu_dl k1 M1 d + q), nI d, nI g, nI q, nI e, oc, sw, iz, lz, nd, sn, tx, tn, rg) (nI A, nI T, nI C, nI c, nI (hu_dl k1 M1 d + q), nI e, rl, no, co, ty, tl, ch, pt, we, ro, wh, hv, pr, iw, cd) := hr_in A T C c h d g q e n0 n1 M0 M1 t0 t1 b R0 w0 k0 W0 R1 w1 k1 W1 oc sw iz lz nd sn tx tn rg rl no co ty tl ch pt we ro wh hv pr iw cd pf xa ya
  rcases hr_side v1 with x | x | x
  · subst x; exact hm_textLength (hr_S0 pf xa ya) (by omega) R
  · subst x; exact hm_textLength (hr_S1 pf xa ya) (by omega) R
  · unfold wpX_textLength
    refine hx_badSide_no x ?_
    refine br_f (by decide) ?_
    unfold wpY_textLength
    refine hy_badSide_no x ?_
    exact br_f (by decide) ⟨rfl, R⟩
theorem i_vc_textAt {k : Nat} {u : SX} {v : SY} (I : i_Rel k u v) (hk : k + 3 ≤ 1539) (v1 : Int32) (v2 : Int32) : wpX_textAt (fun r => wpY_textAt (fun r' => r' = r ∧ i_Rel (k + 3) u v) v v1 v2) u v1 v2 := by
  refine hr_el (P := fun u v => wpX_textAt (fun r => wpY_textAt (fun r' => r' = r ∧ i_Rel (k + 3) u v) v v1 v2) u v1 v2) I ?_
  intro A T C c h d g q e n0 n1 M0 M1 t0 t1 b R0 w0 k0 W0 R1 w1 k1 W1 oc sw iz lz nd sn tx tn rg rl no co ty tl ch pt we ro wh hv pr iw cd pf xa ya
  have R : i_Rel (k + 3) (nI A, nI T, nI C, nI h, nI c, nI (hu_dv k1 M1 d * 2 ^ q + g), nI (hu_dl k1 M1 d + q), nI d, nI g, nI q, nI e, oc, sw, iz, lz, nd, sn, tx, tn, rg) (nI A, nI T, nI C, nI c, nI (hu_dl k1 M1 d + q), nI e, rl, no, co, ty, tl, ch, pt, we, ro, wh, hv, pr, iw, cd) := hr_in A T C c h d g q e n0 n1 M0 M1 t0 t1 b R0 w0 k0 W0 R1 w1 k1 W1 oc sw iz lz nd sn tx tn rg rl no co ty tl ch pt we ro wh hv pr iw cd pf xa ya
  rcases hr_side v1 with x | x | x
  · subst x; exact hm_textAt (hr_S0 pf xa ya) (by omega) R
  · subst x; exact hm_textAt (hr_S1 pf xa ya) (by omega) R
  · unfold wpX_textAt
    refine hx_badSide_no x ?_
    refine br_f (by decide) ?_
    unfold wpY_textAt
    refine hy_badSide_no x ?_
    exact br_f (by decide) ⟨rfl, R⟩
end
section
/-! calls on one side: weight, codes, nodes -/
section
variable {A sd n M s : Nat} {t R wt kk W : Nat → Nat}
variable {eA eT eC rh rc pb pc ds tb tc un : Int32} {oc sw iz lz nd sn tx tn rg : Nat → Int32}
variable {yA yT yC cl pl cf rl no co : Int32} {ty tl ch pt we ro wh hv pr iw cd : Nat → Int32}
theorem hm_load {post : SY → Prop} (S : hu_S sd A n M t R wt kk W oc sw iz lz nd sn tx tn ty tl) (hsd : sd < 2)
    (K : ∀ we' ro' wh' hv' pr' iw' : Nat → Int32, hu_YR M R wt ro' we' → hu_NP M kk R W wh' hv' pr' → post (nI A, yT, yC, cl, pl, cf, nI (M + 1), nI (2 * M + 1), co, ty, tl, ch, pt, we', ro', wh', hv', pr', iw', cd)) : wpY_load post (nI A, yT, yC, cl, pl, cf, rl, no, co, ty, tl, ch, pt, we, ro, wh, hv, pr, iw, cd) (nI sd) :=
  hy_load hsd S.2.2.2.2.2.2.2 S.2.2.2.2.2.1 S.2.2.2.1 S.2.2.2.2.1 S.2.2.2.2.2.2.1 S.1.1 S.1.2.1 K
theorem hm_weight {Q : SY → Prop} (S : hu_S sd A n M t R wt kk W oc sw iz lz nd sn tx tn ty tl) (hsd : sd < 2) (hs : s < A)
    (H : ∀ (rl no co : Int32) (we ro wh hv pr iw cd : Nat → Int32), Q (nI A, yT, yC, cl, pl, cf, rl, no, co, ty, tl, ch, pt, we, ro, wh, hv, pr, iw, cd)) : wpX_weight (fun r => wpY_weight (fun r' v' => r' = r ∧ Q v') (nI A, yT, yC, cl, pl, cf, rl, no, co, ty, tl, ch, pt, we, ro, wh, hv, pr, iw, cd) (nI sd) (nI s)) (nI A, eT, eC, rh, rc, pb, pc, ds, tb, tc, un, oc, sw, iz, lz, nd, sn, tx, tn, rg) (nI sd) (nI s) := by
  have I := S.1
  have hA := I.1.2.1
  have hM := hu_ro_M I.1
  have Yg : wpY_weight (fun r' v' => r' = nI (wt s) ∧ Q v') (nI A, yT, yC, cl, pl, cf, rl, no, co, ty, tl, ch, pt, we, ro, wh, hv, pr, iw, cd) (nI sd) (nI s) := by
    unfold wpY_weight
    refine hy_badSide_ok hsd ?_
    refine br_t rfl ?_
    refine hy_badSymbol_ok hA hs ?_
    refine br_t rfl ?_
    refine hm_load S hsd ?_
    intro we' ro' wh' hv' pr' iw' yr np
    refine ⟨vp_in_nI (by omega) (by omega), ?_, H _ _ _ _ _ _ _ _ _ _⟩
    rw [nI_clamp (by omega), yr.2 s (by omega)]
  unfold wpX_weight
  refine hx_badSide_ok hsd ?_
  refine br_t rfl ?_
  refine hx_badSymbol_ok hA hs ?_
  refine br_t rfl ⟨pk_in _ 64 (by omega) (hx_32 sd s), ?_⟩
  by_cases c : wt s = 0
  · rw [c] at Yg
    exact nm_r (e' := 0) (by rw [hx_c32 hsd (by omega), hu_XT_lz0 I (by omega) c]) (br_t rfl Yg)
  · have l := hu_XT_lz1 I (s := s) (by omega) c
    refine nm_r (e' := nI (hu_ls kk M R s)) (by rw [hx_c32 hsd (by omega), l.1]) (br_f (nI_ne0 (by omega) (by omega)) ⟨pk_in _ 144 (by omega) (hx_72 _ _), ?_⟩)
    rw [hx_c72 hsd (by omega), I.2.2.1.2.2.2 _ l.2.2]
    obtain ⟨j, hj, hR⟩ := hu_ro_ex I.1 (s := s) (by omega) c
    have sp := hu_ls_spec I.2.1.1 hj hR
    have w := I.2.1.2.2.2.2.2.1 _ sp.1 sp.2.1
    rw [sp.2.2] at w
    unfold hu_lw at w
    rw [if_neg (by omega)] at w
    rw [w]
    exact Yg
theorem hm_codeLength {Q : SY → Prop} (S : hu_S sd A n M t R wt kk W oc sw iz lz nd sn tx tn ty tl) (hsd : sd < 2) (hs : s < A)
    (H : ∀ (rl no co : Int32) (we ro wh hv pr iw cd : Nat → Int32), Q (nI A, yT, yC, cl, pl, cf, rl, no, co, ty, tl, ch, pt, we, ro, wh, hv, pr, iw, cd)) : wpX_codeLength (fun r => wpY_codeLength (fun r' v' => r' = r ∧ Q v') (nI A, yT, yC, cl, pl, cf, rl, no, co, ty, tl, ch, pt, we, ro, wh, hv, pr, iw, cd) (nI sd) (nI s)) (nI A, eT, eC, rh, rc, pb, pc, ds, tb, tc, un, oc, sw, iz, lz, nd, sn, tx, tn, rg) (nI sd) (nI s) := by
  have I := S.1
  have hA := I.1.2.1
  unfold wpX_codeLength
  refine hx_badSide_ok hsd ?_
  refine br_t rfl ?_
  refine hx_badSymbol_ok hA hs ?_
  refine br_t rfl ?_
  refine hx_fullLength hsd I hs ?_
  unfold wpY_codeLength
  refine hy_badSide_ok hsd ?_
  refine br_t rfl ?_
  refine hy_badSymbol_ok hA hs ?_
  refine br_t rfl ?_
  refine hm_load S hsd ?_
  intro we' ro' wh' hv' pr' iw' yr np
  refine hy_make I.1 I.2.1 (hu_wt20 S.2.2.2.2.2.2.2 S.2.2.2.2.2.2.1) yr np hs ?_
  intro cd' B
  exact ⟨rfl, H _ _ _ _ _ _ _ _ _ _⟩
theorem hy_cv_33 {post : Int32 → SY → Prop} {P l : Nat} (hl : l ≤ 31) (B : hu_BT P l cd) (H : post (nI P) (yA, yT, yC, cl, pl, cf, rl, no, nI l, ty, tl, ch, pt, we, ro, wh, hv, pr, iw, cd)) : ∀ (e i f : Nat), i + e = l → e < f → wY_codeValue_33 post yA yT yC cl pl cf rl no (nI l) ty tl ch pt we ro wh hv pr iw cd f (nI (P / 2 ^ (l - i))) (nI i) := by
  intro e
  induction e with
  | zero =>
    intro i f hid hf
    obtain ⟨f, rfl⟩ : ∃ g, f = g + 1 := ⟨f - 1, by omega⟩
    have e : i = l := by omega
    subst e
    rw [Nat.sub_self, Nat.pow_zero, Nat.div_one]
    exact br_t (nI_le (Nat.le_refl _) (by omega)) H
  | succ e ih =>
    intro i f hid hf
    obtain ⟨f, rfl⟩ : ∃ g, f = g + 1 := ⟨f - 1, by omega⟩
    refine br_f (nI_ge (by omega) (by omega)) ⟨vp_in_nI (by omega) (by omega), ?_⟩
    rw [nI_clamp (by omega), B i (by omega)]
    exact nm_r (hb_foldI (by omega)) (nm_r (nI_1 i) (ih (i + 1) f (by omega) (by omega)))
theorem hm_codeValue {Q : SY → Prop} (S : hu_S sd A n M t R wt kk W oc sw iz lz nd sn tx tn ty tl) (hsd : sd < 2) (hs : s < A)
    (H : ∀ (rl no co : Int32) (we ro wh hv pr iw cd : Nat → Int32), Q (nI A, yT, yC, cl, pl, cf, rl, no, co, ty, tl, ch, pt, we, ro, wh, hv, pr, iw, cd)) : wpX_codeValue (fun r => wpY_codeValue (fun r' v' => r' = r ∧ Q v') (nI A, yT, yC, cl, pl, cf, rl, no, co, ty, tl, ch, pt, we, ro, wh, hv, pr, iw, cd) (nI sd) (nI s)) (nI A, eT, eC, rh, rc, pb, pc, ds, tb, tc, un, oc, sw, iz, lz, nd, sn, tx, tn, rg) (nI sd) (nI s) := by
  have I := S.1
  have hA := I.1.2.1
  unfold wpX_codeValue
  refine hx_badSide_ok hsd ?_
  refine br_t rfl ?_
  refine hx_badSymbol_ok hA hs ?_
  refine br_t rfl ?_
  refine hx_fullValue hsd I hs ?_
  unfold wpY_codeValue
  refine hy_badSide_ok hsd ?_
  refine br_t rfl ?_
  refine hy_badSymbol_ok hA hs ?_
  refine br_t rfl ?_
  refine hm_load S hsd ?_
  intro we' ro' wh' hv' pr' iw' yr np
  refine hy_make I.1 I.2.1 (hu_wt20 S.2.2.2.2.2.2.2 S.2.2.2.2.2.2.1) yr np hs ?_
  intro cd' B
  have x := hy_cv_33 (post := fun r' v' => r' = nI (hu_cv A M kk R wt s) ∧ Q v') (yA := nI A) (yT := yT) (yC := yC) (cl := cl) (pl := pl) (cf := cf) (rl := nI (M + 1)) (no := nI (2 * M + 1)) (ty := ty) (tl := tl) (ch := ch) (pt := pt) (we := we') (ro := ro') (wh := wh') (hv := hv') (pr := pr') (iw := iw') (cd := cd') (hu_cl_le I.1 I.2.1.1 I.2.1.2.1 hs).1 B ⟨rfl, H _ _ _ _ _ _ _ _ _ _⟩ (hu_cl A M kk R wt s) 0 (hu_cl A M kk R wt s + 1) (by omega) (by omega)
  rw [Nat.sub_zero, Nat.div_eq_of_lt (hu_cv_lt I.1 I.2.1.1 I.2.1.2.1 hs)] at x
  exact ⟨hu_cl A M kk R wt s + 1, x⟩
theorem hm_nodeCount {Q : SY → Prop} (S : hu_S sd A n M t R wt kk W oc sw iz lz nd sn tx tn ty tl) (hsd : sd < 2)
    (H : ∀ (rl no co : Int32) (we ro wh hv pr iw cd : Nat → Int32), Q (nI A, yT, yC, cl, pl, cf, rl, no, co, ty, tl, ch, pt, we, ro, wh, hv, pr, iw, cd)) : wpX_nodeCount (fun r => wpY_nodeCount (fun r' v' => r' = r ∧ Q v') (nI A, yT, yC, cl, pl, cf, rl, no, co, ty, tl, ch, pt, we, ro, wh, hv, pr, iw, cd) (nI sd)) (nI A, eT, eC, rh, rc, pb, pc, ds, tb, tc, un, oc, sw, iz, lz, nd, sn, tx, tn, rg) (nI sd) := by
  have csd : (nI sd).toNatClampNeg = sd := nI_clamp (by omega)
  unfold wpX_nodeCount
  refine hx_badSide_ok hsd ?_
  refine br_t rfl ⟨vp_in_nI hsd (by omega), ?_⟩
  rw [csd, S.1.2.2.2.1]
  unfold wpY_nodeCount
  refine hy_badSide_ok hsd ?_
  refine br_t rfl ?_
  refine hm_load S hsd ?_
  intro we' ro' wh' hv' pr' iw' yr np
  exact ⟨rfl, H _ _ _ _ _ _ _ _ _ _⟩
theorem hr_num (x : Int32) {N : Nat} (hN : N < 1000) : x < 1 ∨ (¬ x < 1 ∧ ¬ x ≤ nI N) ∨ ∃ j : Nat, 1 ≤ j ∧ j ≤ N ∧ x = nI j := by
  by_cases c : x < 1
  · exact Or.inl c
  · have x0 : ¬ x < 0 := fun z => c (Int32.lt_trans z (by decide))
    obtain ⟨j, hj, rfl⟩ := nI_of x0
    have j1 : 1 ≤ j := by
      by_cases z : 1 ≤ j
      · exact z
      · exact absurd (nI_lt (a := j) (b := 1) (by omega) (by omega)) c
    by_cases d : nI j ≤ nI N
    · exact Or.inr (Or.inr ⟨j, j1, (nI_leI hj (by omega)).mp d, rfl⟩)
    · exact Or.inr (Or.inl ⟨c, d⟩)
theorem hx_badNode_ok {post : Int32 → Prop} {j : Nat} (I : hu_XT sd A n M R wt kk W oc sw iz lz nd sn) (hsd : sd < 2) (h1 : 1 ≤ j) (h2 : j ≤ 2 * M + 1) (H : post 0) : wpX_badNode post (eA, eT, eC, rh, rc, pb, pc, ds, tb, tc, un, oc, sw, iz, lz, nd, sn, tx, tn, rg) (nI sd) (nI j) := by
  have hM := hu_ro_M I.1
  unfold wpX_badNode
  refine hx_badSide_ok hsd ?_
  refine br_t rfl (br_f (nI_nlt (b := 1) h1 (by omega)) ⟨vp_in_nI hsd (by omega), ?_⟩)
  rw [nI_clamp (by omega), I.2.2.2.1]
  exact br_t (nI_le h2 (by omega)) H
theorem hx_badNode_no {post : Int32 → Prop} {x : Int32} (I : hu_XT sd A n M R wt kk W oc sw iz lz nd sn) (hsd : sd < 2) (h : x < 1 ∨ (¬ x < 1 ∧ ¬ x ≤ nI (2 * M + 1))) (H : post 1) : wpX_badNode post (eA, eT, eC, rh, rc, pb, pc, ds, tb, tc, un, oc, sw, iz, lz, nd, sn, tx, tn, rg) (nI sd) x := by
  unfold wpX_badNode
  refine hx_badSide_ok hsd ?_
  refine br_t rfl ?_
  rcases h with c | c
  · exact br_t c H
  · refine br_f c.1 ⟨vp_in_nI hsd (by omega), ?_⟩
    rw [nI_clamp (by omega), I.2.2.2.1]
    exact br_f c.2 H
theorem hx_badNode_side {post : Int32 → Prop} {x y : Int32} (h : ¬ x = 0 ∧ ¬ x = 1) (H : post 1) : wpX_badNode post (eA, eT, eC, rh, rc, pb, pc, ds, tb, tc, un, oc, sw, iz, lz, nd, sn, tx, tn, rg) x y := by
  unfold wpX_badNode
  refine hx_badSide_no h ?_
  exact br_f (by decide) H
theorem hm_nodeWeight {Q : SY → Prop} {v2 : Int32} (S : hu_S sd A n M t R wt kk W oc sw iz lz nd sn tx tn ty tl) (hsd : sd < 2)
    (H : ∀ (rl no co : Int32) (we ro wh hv pr iw cd : Nat → Int32), Q (nI A, yT, yC, cl, pl, cf, rl, no, co, ty, tl, ch, pt, we, ro, wh, hv, pr, iw, cd)) : wpX_nodeWeight (fun r => wpY_nodeWeight (fun r' v' => r' = r ∧ Q v') (nI A, yT, yC, cl, pl, cf, rl, no, co, ty, tl, ch, pt, we, ro, wh, hv, pr, iw, cd) (nI sd) v2) (nI A, eT, eC, rh, rc, pb, pc, ds, tb, tc, un, oc, sw, iz, lz, nd, sn, tx, tn, rg) (nI sd) v2 := by
  have I := S.1
  have hM := hu_ro_M I.1
  have h := I.2.1.1
  have hp := I.2.1.2.1
  have tX := I.2.2.1
  have csd : (nI sd).toNatClampNeg = sd := nI_clamp (by omega)
  unfold wpX_nodeWeight
  have bad : (v2 < 1 ∨ (¬ v2 < 1 ∧ ¬ v2 ≤ nI (2 * M + 1))) → wpX_nodeWeight (fun r => wpY_nodeWeight (fun r' v' => r' = r ∧ Q v') (nI A, yT, yC, cl, pl, cf, rl, no, co, ty, tl, ch, pt, we, ro, wh, hv, pr, iw, cd) (nI sd) v2) (nI A, eT, eC, rh, rc, pb, pc, ds, tb, tc, un, oc, sw, iz, lz, nd, sn, tx, tn, rg) (nI sd) v2 := by
    intro c
    unfold wpX_nodeWeight
    refine hx_badNode_no I hsd c ?_
    refine br_f (by decide) ?_
    unfold wpY_nodeWeight
    refine hy_badSide_ok hsd ?_
    refine br_t rfl ?_
    refine hm_load S hsd ?_
    intro we' ro' wh' hv' pr' iw' yr np
    rcases c with c | c
    · exact br_t c ⟨rfl, H _ _ _ _ _ _ _ _ _ _⟩
    · exact br_f c.1 (br_f c.2 ⟨rfl, H _ _ _ _ _ _ _ _ _ _⟩)
  unfold wpX_nodeWeight at bad
  rcases hr_num v2 (N := 2 * M + 1) (by omega) with c | c | ⟨j, j1, j2, rfl⟩
  · exact bad (Or.inl c)
  · exact bad (Or.inr c)
  · clear bad
    have Yg : ∀ r : Int32, (∀ wh' hv' pr' : Nat → Int32, hu_NP M kk R W wh' hv' pr' → hv' j = r) → wpY_nodeWeight (fun r' v' => r' = r ∧ Q v') (nI A, yT, yC, cl, pl, cf, rl, no, co, ty, tl, ch, pt, we, ro, wh, hv, pr, iw, cd) (nI sd) (nI j) := by
      intro r hr
      unfold wpY_nodeWeight
      refine hy_badSide_ok hsd ?_
      refine br_t rfl ?_
      refine hm_load S hsd ?_
      intro we' ro' wh' hv' pr' iw' yr np
      refine br_f (nI_nlt (b := 1) j1 (by omega)) (br_t (nI_le j2 (by omega)) ⟨vp_in_nI (by omega) (by omega), ?_, H _ _ _ _ _ _ _ _ _ _⟩)
      rw [nI_clamp (by omega)]
      exact hr wh' hv' pr' np
    refine hx_badNode_ok I hsd j1 j2 ?_
    refine br_t rfl ⟨vp_in_nI hsd (by omega), nm_r (e' := nI (2 * M + 1 - j)) (by rw [csd, I.2.2.2.1, pk_sub j2]) ?_⟩
    have ej : 2 * M + 1 - (2 * M + 1 - j) = j := by omega
    refine ⟨pk_in _ 144 (by omega) (hx_72 _ _), ?_⟩
    rw [hx_c72 hsd (by omega), tX.2.2.2 _ (by omega)]
    refine Yg _ (fun wh' hv' pr' np => ?_)
    have x := (np.1 (2 * M + 1 - j) (by omega)).1
    rw [ej] at x
    exact x
theorem hm_nodeSymbol {Q : SY → Prop} {v2 : Int32} (S : hu_S sd A n M t R wt kk W oc sw iz lz nd sn tx tn ty tl) (hsd : sd < 2)
    (H : ∀ (rl no co : Int32) (we ro wh hv pr iw cd : Nat → Int32), Q (nI A, yT, yC, cl, pl, cf, rl, no, co, ty, tl, ch, pt, we, ro, wh, hv, pr, iw, cd)) : wpX_nodeSymbol (fun r => wpY_nodeSymbol (fun r' v' => r' = r ∧ Q v') (nI A, yT, yC, cl, pl, cf, rl, no, co, ty, tl, ch, pt, we, ro, wh, hv, pr, iw, cd) (nI sd) v2) (nI A, eT, eC, rh, rc, pb, pc, ds, tb, tc, un, oc, sw, iz, lz, nd, sn, tx, tn, rg) (nI sd) v2 := by
  have I := S.1
  have hM := hu_ro_M I.1
  have h := I.2.1.1
  have hp := I.2.1.2.1
  have tX := I.2.2.1
  have csd : (nI sd).toNatClampNeg = sd := nI_clamp (by omega)
  unfold wpX_nodeSymbol
  have bad : (v2 < 1 ∨ (¬ v2 < 1 ∧ ¬ v2 ≤ nI (2 * M + 1))) → wpX_nodeSymbol (fun r => wpY_nodeSymbol (fun r' v' => r' = r ∧ Q v') (nI A, yT, yC, cl, pl, cf, rl, no, co, ty, tl, ch, pt, we, ro, wh, hv, pr, iw, cd) (nI sd) v2) (nI A, eT, eC, rh, rc, pb, pc, ds, tb, tc, un, oc, sw, iz, lz, nd, sn, tx, tn, rg) (nI sd) v2 := by
    intro c
    unfold wpX_nodeSymbol
    refine hx_badNode_no I hsd c ?_
    refine br_f (by decide) ?_
    unfold wpY_nodeSymbol
    refine hy_badSide_ok hsd ?_
    refine br_t rfl ?_
    refine hm_load S hsd ?_
    intro we' ro' wh' hv' pr' iw' yr np
    rcases c with c | c
    · exact br_t c ⟨rfl, H _ _ _ _ _ _ _ _ _ _⟩
    · exact br_f c.1 (br_f c.2 ⟨rfl, H _ _ _ _ _ _ _ _ _ _⟩)
  unfold wpX_nodeSymbol at bad
  rcases hr_num v2 (N := 2 * M + 1) (by omega) with c | c | ⟨j, j1, j2, rfl⟩
  · exact bad (Or.inl c)
  · exact bad (Or.inr c)
  · clear bad
    have Yg : ∀ r : Int32, (∀ wh' hv' pr' : Nat → Int32, hu_NP M kk R W wh' hv' pr' → wh' j = r) → wpY_nodeSymbol (fun r' v' => r' = r ∧ Q v') (nI A, yT, yC, cl, pl, cf, rl, no, co, ty, tl, ch, pt, we, ro, wh, hv, pr, iw, cd) (nI sd) (nI j) := by
      intro r hr
      unfold wpY_nodeSymbol
      refine hy_badSide_ok hsd ?_
      refine br_t rfl ?_
      refine hm_load S hsd ?_
      intro we' ro' wh' hv' pr' iw' yr np
      refine br_f (nI_nlt (b := 1) j1 (by omega)) (br_t (nI_le j2 (by omega)) ⟨vp_in_nI (by omega) (by omega), ?_, H _ _ _ _ _ _ _ _ _ _⟩)
      rw [nI_clamp (by omega)]
      exact hr wh' hv' pr' np
    refine hx_badNode_ok I hsd j1 j2 ?_
    refine br_t rfl ⟨vp_in_nI hsd (by omega), nm_r (e' := nI (2 * M + 1 - j)) (by rw [csd, I.2.2.2.1, pk_sub j2]) ?_⟩
    have ej : 2 * M + 1 - (2 * M + 1 - j) = j := by omega
    refine ⟨pk_in _ 144 (by omega) (hx_72 _ _), ?_⟩
    rw [hx_c72 hsd (by omega)]
    rcases h.2.2 (2 * M + 1 - j) (by omega) with lf | inn
    · have v := hu_ro_val I.1 (hu_lfM h (i := 2 * M + 1 - j) (by omega) lf)
      refine nm_r (e' := nI (R (2 * M + 1 - j - kk (2 * M + 1 - j)))) (tX.2.1 _ (by omega) lf).1 (br_t (nI_lt (b := 101) (by omega) (by omega)) ?_)
      refine Yg _ (fun wh' hv' pr' np => ?_)
      have x := (np.1 (2 * M + 1 - j) (by omega)).2
      rw [ej, if_pos lf] at x
      exact x
    · have kM := hu_inM h (i := 2 * M + 1 - j) (by omega) inn
      refine nm_r (e' := nI (101 + kk (2 * M + 1 - j))) (tX.1 _ (by omega) inn).1 (br_f (nI_nlt (b := 101) (by omega) (by omega)) ?_)
      refine Yg _ (fun wh' hv' pr' np => ?_)
      have x := (np.1 (2 * M + 1 - j) (by omega)).2
      rw [ej, if_neg (by omega)] at x
      exact x
theorem hm_nodeParent {Q : SY → Prop} {v2 : Int32} (S : hu_S sd A n M t R wt kk W oc sw iz lz nd sn tx tn ty tl) (hsd : sd < 2)
    (H : ∀ (rl no co : Int32) (we ro wh hv pr iw cd : Nat → Int32), Q (nI A, yT, yC, cl, pl, cf, rl, no, co, ty, tl, ch, pt, we, ro, wh, hv, pr, iw, cd)) : wpX_nodeParent (fun r => wpY_nodeParent (fun r' v' => r' = r ∧ Q v') (nI A, yT, yC, cl, pl, cf, rl, no, co, ty, tl, ch, pt, we, ro, wh, hv, pr, iw, cd) (nI sd) v2) (nI A, eT, eC, rh, rc, pb, pc, ds, tb, tc, un, oc, sw, iz, lz, nd, sn, tx, tn, rg) (nI sd) v2 := by
  have I := S.1
  have hM := hu_ro_M I.1
  have h := I.2.1.1
  have hp := I.2.1.2.1
  have tX := I.2.2.1
  have csd : (nI sd).toNatClampNeg = sd := nI_clamp (by omega)
  unfold wpX_nodeParent
  have bad : (v2 < 1 ∨ (¬ v2 < 1 ∧ ¬ v2 ≤ nI (2 * M + 1))) → wpX_nodeParent (fun r => wpY_nodeParent (fun r' v' => r' = r ∧ Q v') (nI A, yT, yC, cl, pl, cf, rl, no, co, ty, tl, ch, pt, we, ro, wh, hv, pr, iw, cd) (nI sd) v2) (nI A, eT, eC, rh, rc, pb, pc, ds, tb, tc, un, oc, sw, iz, lz, nd, sn, tx, tn, rg) (nI sd) v2 := by
    intro c
    unfold wpX_nodeParent
    refine hx_badNode_no I hsd c ?_
    refine br_f (by decide) ?_
    unfold wpY_nodeParent
    refine hy_badSide_ok hsd ?_
    refine br_t rfl ?_
    refine hm_load S hsd ?_
    intro we' ro' wh' hv' pr' iw' yr np
    rcases c with c | c
    · exact br_t c ⟨rfl, H _ _ _ _ _ _ _ _ _ _⟩
    · exact br_f c.1 (br_f c.2 ⟨rfl, H _ _ _ _ _ _ _ _ _ _⟩)
  unfold wpX_nodeParent at bad
  rcases hr_num v2 (N := 2 * M + 1) (by omega) with c | c | ⟨j, j1, j2, rfl⟩
  · exact bad (Or.inl c)
  · exact bad (Or.inr c)
  · clear bad
    have Yg : ∀ r : Int32, (∀ wh' hv' pr' : Nat → Int32, hu_NP M kk R W wh' hv' pr' → pr' j = r) → wpY_nodeParent (fun r' v' => r' = r ∧ Q v') (nI A, yT, yC, cl, pl, cf, rl, no, co, ty, tl, ch, pt, we, ro, wh, hv, pr, iw, cd) (nI sd) (nI j) := by
      intro r hr
      unfold wpY_nodeParent
      refine hy_badSide_ok hsd ?_
      refine br_t rfl ?_
      refine hm_load S hsd ?_
      intro we' ro' wh' hv' pr' iw' yr np
      refine br_f (nI_nlt (b := 1) j1 (by omega)) (br_t (nI_le j2 (by omega)) ⟨vp_in_nI (by omega) (by omega), ?_, H _ _ _ _ _ _ _ _ _ _⟩)
      rw [nI_clamp (by omega)]
      exact hr wh' hv' pr' np
    refine hx_badNode_ok I hsd j1 j2 ?_
    refine br_t rfl ⟨vp_in_nI hsd (by omega), nm_r (e' := nI (2 * M + 1 - j)) (by rw [csd, I.2.2.2.1, pk_sub j2]) ?_⟩
    have ej : 2 * M + 1 - (2 * M + 1 - j) = j := by omega
    by_cases z : 2 * M + 1 - j = 0
    · rw [z]
      refine br_t rfl ?_
      refine Yg _ (fun wh' hv' pr' np => ?_)
      have e : j = 2 * M + 1 := by omega
      rw [e]
      exact np.2.2
    · have sp := hu_pa_spec h hp z (by omega)
      refine br_f (nI_ne0 (by omega) (by omega)) ?_
      refine hx_parent hsd (by omega) (by omega) (hu_XT_iz I z (by omega)) ?_
      refine ⟨vp_in_nI hsd (by omega), ?_⟩
      rw [csd, I.2.2.2.1, pk_sub (by omega)]
      refine Yg _ (fun wh' hv' pr' np => ?_)
      have x := hu_NP_pa h hp np z (by omega)
      rw [ej] at x
      exact x
end
end
section
/-! the owed rows of the calls on one side -/
theorem i_vc_weight {k : Nat} {u : SX} {v : SY} (I : i_Rel k u v) (hk : k + 3 ≤ 1539) (v1 : Int32) (v2 : Int32) : wpX_weight (fun r => wpY_weight (fun r' v' => r' = r ∧ i_Rel (k + 3) u v') v v1 v2) u v1 v2 := by
  refine hr_el (P := fun u v => wpX_weight (fun r => wpY_weight (fun r' v' => r' = r ∧ i_Rel (k + 3) u v') v v1 v2) u v1 v2) I ?_
  intro A T C c h d g q e n0 n1 M0 M1 t0 t1 b R0 w0 k0 W0 R1 w1 k1 W1 oc sw iz lz nd sn tx tn rg rl no co ty tl ch pt we ro wh hv pr iw cd pf xa ya
  have R : ∀ (rl no co : Int32) (we ro wh hv pr iw cd : Nat → Int32), i_Rel (k + 3) (nI A, nI T, nI C, nI h, nI c, nI (hu_dv k1 M1 d * 2 ^ q + g), nI (hu_dl k1 M1 d + q), nI d, nI g, nI q, nI e, oc, sw, iz, lz, nd, sn, tx, tn, rg) (nI A, nI T, nI C, nI c, nI (hu_dl k1 M1 d + q), nI e, rl, no, co, ty, tl, ch, pt, we, ro, wh, hv, pr, iw, cd) := fun rl no co we ro wh hv pr iw cd => hr_in A T C c h d g q e n0 n1 M0 M1 t0 t1 b R0 w0 k0 W0 R1 w1 k1 W1 oc sw iz lz nd sn tx tn rg rl no co ty tl ch pt we ro wh hv pr iw cd pf xa ya
  have hA := xa.1.1.2.1
  have ok : ∀ {sd n M : Nat} {t R wt kk W : Nat → Nat}, sd < 2 → hu_S sd A n M t R wt kk W oc sw iz lz nd sn tx tn ty tl → wpX_weight (fun r => wpY_weight (fun r' v' => r' = r ∧ i_Rel (k + 3) (nI A, nI T, nI C, nI h, nI c, nI (hu_dv k1 M1 d * 2 ^ q + g), nI (hu_dl k1 M1 d + q), nI d, nI g, nI q, nI e, oc, sw, iz, lz, nd, sn, tx, tn, rg) v') (nI A, nI T, nI C, nI c, nI (hu_dl k1 M1 d + q), nI e, rl, no, co, ty, tl, ch, pt, we, ro, wh, hv, pr, iw, cd) (nI sd) v2) (nI A, nI T, nI C, nI h, nI c, nI (hu_dv k1 M1 d * 2 ^ q + g), nI (hu_dl k1 M1 d + q), nI d, nI g, nI q, nI e, oc, sw, iz, lz, nd, sn, tx, tn, rg) (nI sd) v2 := by
    intro sd n M t R' wt kk W hsd S
    have bad : (v2 < 0 ∨ nI A ≤ v2) → wpX_weight (fun r => wpY_weight (fun r' v' => r' = r ∧ i_Rel (k + 3) (nI A, nI T, nI C, nI h, nI c, nI (hu_dv k1 M1 d * 2 ^ q + g), nI (hu_dl k1 M1 d + q), nI d, nI g, nI q, nI e, oc, sw, iz, lz, nd, sn, tx, tn, rg) v') (nI A, nI T, nI C, nI c, nI (hu_dl k1 M1 d + q), nI e, rl, no, co, ty, tl, ch, pt, we, ro, wh, hv, pr, iw, cd) (nI sd) v2) (nI A, nI T, nI C, nI h, nI c, nI (hu_dv k1 M1 d * 2 ^ q + g), nI (hu_dl k1 M1 d + q), nI d, nI g, nI q, nI e, oc, sw, iz, lz, nd, sn, tx, tn, rg) (nI sd) v2 := by
      intro y
      unfold wpX_weight
      refine hx_badSide_ok hsd ?_
      refine br_t rfl ?_
      refine hx_badSymbol_no y ?_
      refine br_f (by decide) ?_
      unfold wpY_weight
      refine hy_badSide_ok hsd ?_
      refine br_t rfl ?_
      refine hy_badSymbol_no y ?_
      exact br_f (by decide) ⟨rfl, R _ _ _ _ _ _ _ _ _ _⟩
    rcases pk_ix v2 (n := A) (by omega) with y | y | ⟨s, hs, rfl⟩
    · exact bad (Or.inl y)
    · exact bad (Or.inr y)
    · exact hm_weight S hsd hs R
  rcases hr_side v1 with x | x | x
  · subst x; exact ok (by omega) (hr_S0 pf xa ya)
  · subst x; exact ok (by omega) (hr_S1 pf xa ya)
  · unfold wpX_weight
    refine hx_badSide_no x ?_
    refine br_f (by decide) ?_
    unfold wpY_weight
    refine hy_badSide_no x ?_
    exact br_f (by decide) ⟨rfl, R _ _ _ _ _ _ _ _ _ _⟩
theorem i_vc_codeLength {k : Nat} {u : SX} {v : SY} (I : i_Rel k u v) (hk : k + 3 ≤ 1539) (v1 : Int32) (v2 : Int32) : wpX_codeLength (fun r => wpY_codeLength (fun r' v' => r' = r ∧ i_Rel (k + 3) u v') v v1 v2) u v1 v2 := by
  refine hr_el (P := fun u v => wpX_codeLength (fun r => wpY_codeLength (fun r' v' => r' = r ∧ i_Rel (k + 3) u v') v v1 v2) u v1 v2) I ?_
  intro A T C c h d g q e n0 n1 M0 M1 t0 t1 b R0 w0 k0 W0 R1 w1 k1 W1 oc sw iz lz nd sn tx tn rg rl no co ty tl ch pt we ro wh hv pr iw cd pf xa ya
  have R : ∀ (rl no co : Int32) (we ro wh hv pr iw cd : Nat → Int32), i_Rel (k + 3) (nI A, nI T, nI C, nI h, nI c, nI (hu_dv k1 M1 d * 2 ^ q + g), nI (hu_dl k1 M1 d + q), nI d, nI g, nI q, nI e, oc, sw, iz, lz, nd, sn, tx, tn, rg) (nI A, nI T, nI C, nI c, nI (hu_dl k1 M1 d + q), nI e, rl, no, co, ty, tl, ch, pt, we, ro, wh, hv, pr, iw, cd) := fun rl no co we ro wh hv pr iw cd => hr_in A T C c h d g q e n0 n1 M0 M1 t0 t1 b R0 w0 k0 W0 R1 w1 k1 W1 oc sw iz lz nd sn tx tn rg rl no co ty tl ch pt we ro wh hv pr iw cd pf xa ya
  have hA := xa.1.1.2.1
  have ok : ∀ {sd n M : Nat} {t R wt kk W : Nat → Nat}, sd < 2 → hu_S sd A n M t R wt kk W oc sw iz lz nd sn tx tn ty tl → wpX_codeLength (fun r => wpY_codeLength (fun r' v' => r' = r ∧ i_Rel (k + 3) (nI A, nI T, nI C, nI h, nI c, nI (hu_dv k1 M1 d * 2 ^ q + g), nI (hu_dl k1 M1 d + q), nI d, nI g, nI q, nI e, oc, sw, iz, lz, nd, sn, tx, tn, rg) v') (nI A, nI T, nI C, nI c, nI (hu_dl k1 M1 d + q), nI e, rl, no, co, ty, tl, ch, pt, we, ro, wh, hv, pr, iw, cd) (nI sd) v2) (nI A, nI T, nI C, nI h, nI c, nI (hu_dv k1 M1 d * 2 ^ q + g), nI (hu_dl k1 M1 d + q), nI d, nI g, nI q, nI e, oc, sw, iz, lz, nd, sn, tx, tn, rg) (nI sd) v2 := by
    intro sd n M t R' wt kk W hsd S
    have bad : (v2 < 0 ∨ nI A ≤ v2) → wpX_codeLength (fun r => wpY_codeLength (fun r' v' => r' = r ∧ i_Rel (k + 3) (nI A, nI T, nI C, nI h, nI c, nI (hu_dv k1 M1 d * 2 ^ q + g), nI (hu_dl k1 M1 d + q), nI d, nI g, nI q, nI e, oc, sw, iz, lz, nd, sn, tx, tn, rg) v') (nI A, nI T, nI C, nI c, nI (hu_dl k1 M1 d + q), nI e, rl, no, co, ty, tl, ch, pt, we, ro, wh, hv, pr, iw, cd) (nI sd) v2) (nI A, nI T, nI C, nI h, nI c, nI (hu_dv k1 M1 d * 2 ^ q + g), nI (hu_dl k1 M1 d + q), nI d, nI g, nI q, nI e, oc, sw, iz, lz, nd, sn, tx, tn, rg) (nI sd) v2 := by
      intro y
      unfold wpX_codeLength
      refine hx_badSide_ok hsd ?_
      refine br_t rfl ?_
      refine hx_badSymbol_no y ?_
      refine br_f (by decide) ?_
      unfold wpY_codeLength
      refine hy_badSide_ok hsd ?_
      refine br_t rfl ?_
      refine hy_badSymbol_no y ?_
      exact br_f (by decide) ⟨rfl, R _ _ _ _ _ _ _ _ _ _⟩
    rcases pk_ix v2 (n := A) (by omega) with y | y | ⟨s, hs, rfl⟩
    · exact bad (Or.inl y)
    · exact bad (Or.inr y)
    · exact hm_codeLength S hsd hs R
  rcases hr_side v1 with x | x | x
  · subst x; exact ok (by omega) (hr_S0 pf xa ya)
  · subst x; exact ok (by omega) (hr_S1 pf xa ya)
  · unfold wpX_codeLength
    refine hx_badSide_no x ?_
    refine br_f (by decide) ?_
    unfold wpY_codeLength
    refine hy_badSide_no x ?_
    exact br_f (by decide) ⟨rfl, R _ _ _ _ _ _ _ _ _ _⟩
theorem i_vc_codeValue {k : Nat} {u : SX} {v : SY} (I : i_Rel k u v) (hk : k + 3 ≤ 1539) (v1 : Int32) (v2 : Int32) : wpX_codeValue (fun r => wpY_codeValue (fun r' v' => r' = r ∧ i_Rel (k + 3) u v') v v1 v2) u v1 v2 := by
  refine hr_el (P := fun u v => wpX_codeValue (fun r => wpY_codeValue (fun r' v' => r' = r ∧ i_Rel (k + 3) u v') v v1 v2) u v1 v2) I ?_
  intro A T C c h d g q e n0 n1 M0 M1 t0 t1 b R0 w0 k0 W0 R1 w1 k1 W1 oc sw iz lz nd sn tx tn rg rl no co ty tl ch pt we ro wh hv pr iw cd pf xa ya
  have R : ∀ (rl no co : Int32) (we ro wh hv pr iw cd : Nat → Int32), i_Rel (k + 3) (nI A, nI T, nI C, nI h, nI c, nI (hu_dv k1 M1 d * 2 ^ q + g), nI (hu_dl k1 M1 d + q), nI d, nI g, nI q, nI e, oc, sw, iz, lz, nd, sn, tx, tn, rg) (nI A, nI T, nI C, nI c, nI (hu_dl k1 M1 d + q), nI e, rl, no, co, ty, tl, ch, pt, we, ro, wh, hv, pr, iw, cd) := fun rl no co we ro wh hv pr iw cd => hr_in A T C c h d g q e n0 n1 M0 M1 t0 t1 b R0 w0 k0 W0 R1 w1 k1 W1 oc sw iz lz nd sn tx tn rg rl no co ty tl ch pt we ro wh hv pr iw cd pf xa ya
  have hA := xa.1.1.2.1
  have ok : ∀ {sd n M : Nat} {t R wt kk W : Nat → Nat}, sd < 2 → hu_S sd A n M t R wt kk W oc sw iz lz nd sn tx tn ty tl → wpX_codeValue (fun r => wpY_codeValue (fun r' v' => r' = r ∧ i_Rel (k + 3) (nI A, nI T, nI C, nI h, nI c, nI (hu_dv k1 M1 d * 2 ^ q + g), nI (hu_dl k1 M1 d + q), nI d, nI g, nI q, nI e, oc, sw, iz, lz, nd, sn, tx, tn, rg) v') (nI A, nI T, nI C, nI c, nI (hu_dl k1 M1 d + q), nI e, rl, no, co, ty, tl, ch, pt, we, ro, wh, hv, pr, iw, cd) (nI sd) v2) (nI A, nI T, nI C, nI h, nI c, nI (hu_dv k1 M1 d * 2 ^ q + g), nI (hu_dl k1 M1 d + q), nI d, nI g, nI q, nI e, oc, sw, iz, lz, nd, sn, tx, tn, rg) (nI sd) v2 := by
    intro sd n M t R' wt kk W hsd S
    have bad : (v2 < 0 ∨ nI A ≤ v2) → wpX_codeValue (fun r => wpY_codeValue (fun r' v' => r' = r ∧ i_Rel (k + 3) (nI A, nI T, nI C, nI h, nI c, nI (hu_dv k1 M1 d * 2 ^ q + g), nI (hu_dl k1 M1 d + q), nI d, nI g, nI q, nI e, oc, sw, iz, lz, nd, sn, tx, tn, rg) v') (nI A, nI T, nI C, nI c, nI (hu_dl k1 M1 d + q), nI e, rl, no, co, ty, tl, ch, pt, we, ro, wh, hv, pr, iw, cd) (nI sd) v2) (nI A, nI T, nI C, nI h, nI c, nI (hu_dv k1 M1 d * 2 ^ q + g), nI (hu_dl k1 M1 d + q), nI d, nI g, nI q, nI e, oc, sw, iz, lz, nd, sn, tx, tn, rg) (nI sd) v2 := by
      intro y
      unfold wpX_codeValue
      refine hx_badSide_ok hsd ?_
      refine br_t rfl ?_
      refine hx_badSymbol_no y ?_
      refine br_f (by decide) ?_
      unfold wpY_codeValue
      refine hy_badSide_ok hsd ?_
      refine br_t rfl ?_
      refine hy_badSymbol_no y ?_
      exact br_f (by decide) ⟨rfl, R _ _ _ _ _ _ _ _ _ _⟩
    rcases pk_ix v2 (n := A) (by omega) with y | y | ⟨s, hs, rfl⟩
    · exact bad (Or.inl y)
    · exact bad (Or.inr y)
    · exact hm_codeValue S hsd hs R
  rcases hr_side v1 with x | x | x
  · subst x; exact ok (by omega) (hr_S0 pf xa ya)
  · subst x; exact ok (by omega) (hr_S1 pf xa ya)
  · unfold wpX_codeValue
    refine hx_badSide_no x ?_
    refine br_f (by decide) ?_
    unfold wpY_codeValue
    refine hy_badSide_no x ?_
    exact br_f (by decide) ⟨rfl, R _ _ _ _ _ _ _ _ _ _⟩
theorem i_vc_nodeCount {k : Nat} {u : SX} {v : SY} (I : i_Rel k u v) (hk : k + 3 ≤ 1539) (v1 : Int32) : wpX_nodeCount (fun r => wpY_nodeCount (fun r' v' => r' = r ∧ i_Rel (k + 3) u v') v v1) u v1 := by
  refine hr_el (P := fun u v => wpX_nodeCount (fun r => wpY_nodeCount (fun r' v' => r' = r ∧ i_Rel (k + 3) u v') v v1) u v1) I ?_
  intro A T C c h d g q e n0 n1 M0 M1 t0 t1 b R0 w0 k0 W0 R1 w1 k1 W1 oc sw iz lz nd sn tx tn rg rl no co ty tl ch pt we ro wh hv pr iw cd pf xa ya
  have R : ∀ (rl no co : Int32) (we ro wh hv pr iw cd : Nat → Int32), i_Rel (k + 3) (nI A, nI T, nI C, nI h, nI c, nI (hu_dv k1 M1 d * 2 ^ q + g), nI (hu_dl k1 M1 d + q), nI d, nI g, nI q, nI e, oc, sw, iz, lz, nd, sn, tx, tn, rg) (nI A, nI T, nI C, nI c, nI (hu_dl k1 M1 d + q), nI e, rl, no, co, ty, tl, ch, pt, we, ro, wh, hv, pr, iw, cd) := fun rl no co we ro wh hv pr iw cd => hr_in A T C c h d g q e n0 n1 M0 M1 t0 t1 b R0 w0 k0 W0 R1 w1 k1 W1 oc sw iz lz nd sn tx tn rg rl no co ty tl ch pt we ro wh hv pr iw cd pf xa ya
  rcases hr_side v1 with x | x | x
  · subst x; exact hm_nodeCount (hr_S0 pf xa ya) (by omega) R
  · subst x; exact hm_nodeCount (hr_S1 pf xa ya) (by omega) R
  · unfold wpX_nodeCount
    refine hx_badSide_no x ?_
    refine br_f (by decide) ?_
    unfold wpY_nodeCount
    refine hy_badSide_no x ?_
    exact br_f (by decide) ⟨rfl, R _ _ _ _ _ _ _ _ _ _⟩
theorem i_vc_nodeWeight {k : Nat} {u : SX} {v : SY} (I : i_Rel k u v) (hk : k + 3 ≤ 1539) (v1 : Int32) (v2 : Int32) : wpX_nodeWeight (fun r => wpY_nodeWeight (fun r' v' => r' = r ∧ i_Rel (k + 3) u v') v v1 v2) u v1 v2 := by
  refine hr_el (P := fun u v => wpX_nodeWeight (fun r => wpY_nodeWeight (fun r' v' => r' = r ∧ i_Rel (k + 3) u v') v v1 v2) u v1 v2) I ?_
  intro A T C c h d g q e n0 n1 M0 M1 t0 t1 b R0 w0 k0 W0 R1 w1 k1 W1 oc sw iz lz nd sn tx tn rg rl no co ty tl ch pt we ro wh hv pr iw cd pf xa ya
  have R : ∀ (rl no co : Int32) (we ro wh hv pr iw cd : Nat → Int32), i_Rel (k + 3) (nI A, nI T, nI C, nI h, nI c, nI (hu_dv k1 M1 d * 2 ^ q + g), nI (hu_dl k1 M1 d + q), nI d, nI g, nI q, nI e, oc, sw, iz, lz, nd, sn, tx, tn, rg) (nI A, nI T, nI C, nI c, nI (hu_dl k1 M1 d + q), nI e, rl, no, co, ty, tl, ch, pt, we, ro, wh, hv, pr, iw, cd) := fun rl no co we ro wh hv pr iw cd => hr_in A T C c h d g q e n0 n1 M0 M1 t0 t1 b R0 w0 k0 W0 R1 w1 k1 W1 oc sw iz lz nd sn tx tn rg rl no co ty tl ch pt we ro wh hv pr iw cd pf xa ya
  rcases hr_side v1 with x | x | x
  · subst x; exact hm_nodeWeight (hr_S0 pf xa ya) (by omega) R
  · subst x; exact hm_nodeWeight (hr_S1 pf xa ya) (by omega) R
  · unfold wpX_nodeWeight
    refine hx_badNode_side x ?_
    refine br_f (by decide) ?_
    unfold wpY_nodeWeight
    refine hy_badSide_no x ?_
    exact br_f (by decide) ⟨rfl, R _ _ _ _ _ _ _ _ _ _⟩
theorem i_vc_nodeSymbol {k : Nat} {u : SX} {v : SY} (I : i_Rel k u v) (hk : k + 3 ≤ 1539) (v1 : Int32) (v2 : Int32) : wpX_nodeSymbol (fun r => wpY_nodeSymbol (fun r' v' => r' = r ∧ i_Rel (k + 3) u v') v v1 v2) u v1 v2 := by
  refine hr_el (P := fun u v => wpX_nodeSymbol (fun r => wpY_nodeSymbol (fun r' v' => r' = r ∧ i_Rel (k + 3) u v') v v1 v2) u v1 v2) I ?_
  intro A T C c h d g q e n0 n1 M0 M1 t0 t1 b R0 w0 k0 W0 R1 w1 k1 W1 oc sw iz lz nd sn tx tn rg rl no co ty tl ch pt we ro wh hv pr iw cd pf xa ya
  have R : ∀ (rl no co : Int32) (we ro wh hv pr iw cd : Nat → Int32), i_Rel (k + 3) (nI A, nI T, nI C, nI h, nI c, nI (hu_dv k1 M1 d * 2 ^ q + g), nI (hu_dl k1 M1 d + q), nI d, nI g, nI q, nI e, oc, sw, iz, lz, nd, sn, tx, tn, rg) (nI A, nI T, nI C, nI c, nI (hu_dl k1 M1 d + q), nI e, rl, no, co, ty, tl, ch, pt, we, ro, wh, hv, pr, iw, cd) := fun rl no co we ro wh hv pr iw cd => hr_in A T C c h d g q e n0 n1 M0 M1 t0 t1 b R0 w0 k0 W0 R1 w1 k1 W1 oc sw iz lz nd sn tx tn rg rl no co ty tl ch pt we ro wh hv pr iw cd pf xa ya
  rcases hr_side v1 with x | x | x
  · subst x; exact hm_nodeSymbol (hr_S0 pf xa ya) (by omega) R
  · subst x; exact hm_nodeSymbol (hr_S1 pf xa ya) (by omega) R
  · unfold wpX_nodeSymbol
    refine hx_badNode_side x ?_
    refine br_f (by decide) ?_
    unfold wpY_nodeSymbol
    refine hy_badSide_no x ?_
    exact br_f (by decide) ⟨rfl, R _ _ _ _ _ _ _ _ _ _⟩
theorem i_vc_nodeParent {k : Nat} {u : SX} {v : SY} (I : i_Rel k u v) (hk : k + 3 ≤ 1539) (v1 : Int32) (v2 : Int32) : wpX_nodeParent (fun r => wpY_nodeParent (fun r' v' => r' = r ∧ i_Rel (k + 3) u v') v v1 v2) u v1 v2 := by
  refine hr_el (P := fun u v => wpX_nodeParent (fun r => wpY_nodeParent (fun r' v' => r' = r ∧ i_Rel (k + 3) u v') v v1 v2) u v1 v2) I ?_
  intro A T C c h d g q e n0 n1 M0 M1 t0 t1 b R0 w0 k0 W0 R1 w1 k1 W1 oc sw iz lz nd sn tx tn rg rl no co ty tl ch pt we ro wh hv pr iw cd pf xa ya
  have R : ∀ (rl no co : Int32) (we ro wh hv pr iw cd : Nat → Int32), i_Rel (k + 3) (nI A, nI T, nI C, nI h, nI c, nI (hu_dv k1 M1 d * 2 ^ q + g), nI (hu_dl k1 M1 d + q), nI d, nI g, nI q, nI e, oc, sw, iz, lz, nd, sn, tx, tn, rg) (nI A, nI T, nI C, nI c, nI (hu_dl k1 M1 d + q), nI e, rl, no, co, ty, tl, ch, pt, we, ro, wh, hv, pr, iw, cd) := fun rl no co we ro wh hv pr iw cd => hr_in A T C c h d g q e n0 n1 M0 M1 t0 t1 b R0 w0 k0 W0 R1 w1 k1 W1 oc sw iz lz nd sn tx tn rg rl no co ty tl ch pt we ro wh hv pr iw cd pf xa ya
  rcases hr_side v1 with x | x | x
  · subst x; exact hm_nodeParent (hr_S0 pf xa ya) (by omega) R
  · subst x; exact hm_nodeParent (hr_S1 pf xa ya) (by omega) R
  · unfold wpX_nodeParent
    refine hx_badNode_side x ?_
    refine br_f (by decide) ?_
    unfold wpY_nodeParent
    refine hy_badSide_no x ?_
    exact br_f (by decide) ⟨rfl, R _ _ _ _ _ _ _ _ _ _⟩
end
section
/-! the owed rows: send, sendRun -/
theorem hu_PF_send {A T C c h d g q e n0 n1 M0 M1 s : Nat} {t0 t1 b R0 w0 k0 W0 R1 w1 k1 W1 k' W' : Nat → Nat} {oc sw iz lz nd sn : Nat → Int32} (pf : hu_PF A T C c h d g q e n0 n1 M0 M1 t0 t1 b R0 w0 k0 W0 R1 w1 k1 W1) (hs : s < A) (hn : n0 < T) (hL : c + hu_cl A M0 k0 R0 w0 s ≤ C)
    (X' : hu_XT 0 A (n0 + 1) (hu_us A (M0, R0, w0) s).1 (hu_us A (M0, R0, w0) s).2.1 (hu_us A (M0, R0, w0) s).2.2 k' W' oc sw iz lz nd sn) :
    hu_PF A T C (c + hu_cl A M0 k0 R0 w0 s) h d g q e (n0 + 1) n1 (hu_us A (M0, R0, w0) s).1 M1 (hu_up t0 n0 s) t1 (hu_bb c (hu_cl A M0 k0 R0 w0 s) (hu_cv A M0 k0 R0 w0 s) b) (hu_us A (M0, R0, w0) s).2.1 (hu_us A (M0, R0, w0) s).2.2 k' W' R1 w1 k1 W1 := by
  obtain ⟨f1, f2, f3, f4, f5, f6, f7, f8, f9, f10, f11, f12, f13⟩ := pf
  have o := hu_OK_app f8 hs f9 X'.1 X'.2.1
  exact ⟨f1, f2, hL, f4, f5, hn, f7, o.1, o.2, f10, f11, fun i _ => hu_bb_lt f12 i, f13⟩
theorem i_vc_send {k : Nat} {u : SX} {v : SY} (I : i_Rel k u v) (hk : k + 3 ≤ 1539) (v1 : Int32) : wpX_send (fun r u' => wpY_send (fun r' v' => r' = r ∧ i_Rel (k + 3) u' v') v v1) u v1 := by
  refine hr_el (P := fun u v => wpX_send (fun r u' => wpY_send (fun r' v' => r' = r ∧ i_Rel (k + 3) u' v') v v1) u v1) I ?_
  intro A T C c h d g q e n0 n1 M0 M1 t0 t1 b R0 w0 k0 W0 R1 w1 k1 W1 oc sw iz lz nd sn tx tn rg rl no co ty tl ch pt we ro wh hv pr iw cd pf xa ya
  have hA := xa.1.1.2.1
  have hT := pf.1
  have hC := pf.2.1
  have hc := pf.2.2.1
  have hh := pf.2.2.2.1
  have hn := pf.2.2.2.2.2.1
  have ok := pf.2.2.2.2.2.2.2.1
  have erp := pf.2.2.2.2.2.2.2.2.1
  have bad : (v1 < 0 ∨ nI A ≤ v1) → wpX_send (fun r u' => wpY_send (fun r' v' => r' = r ∧ i_Rel (k + 3) u' v') (nI A, nI T, nI C, nI c, nI (hu_dl k1 M1 d + q), nI e, rl, no, co, ty, tl, ch, pt, we, ro, wh, hv, pr, iw, cd) v1) (nI A, nI T, nI C, nI h, nI c, nI (hu_dv k1 M1 d * 2 ^ q + g), nI (hu_dl k1 M1 d + q), nI d, nI g, nI q, nI e, oc, sw, iz, lz, nd, sn, tx, tn, rg) v1 := by
    intro y
    unfold wpX_send
    refine hx_badSymbol_no y ?_
    refine br_f (by decide) ?_
    unfold wpY_send
    refine hy_badSymbol_no y ?_
    exact br_f (by decide) ⟨rfl, hr_in A T C c h d g q e n0 n1 M0 M1 t0 t1 b R0 w0 k0 W0 R1 w1 k1 W1 oc sw iz lz nd sn tx tn rg rl no co ty tl ch pt we ro wh hv pr iw cd pf xa ya⟩
  rcases pk_ix v1 (n := A) (by omega) with y | y | ⟨s, hs, rfl⟩
  · exact bad (Or.inl y)
  · exact bad (Or.inr y)
  · clear bad
    by_cases z : n0 < T
    · by_cases w : c + hu_cl A M0 k0 R0 w0 s ≤ C
      · refine hx_send_ok xa hT z hs hC hh w ?_
        intro k' W' oc' sw' iz' lz' nd' sn' tx' tn' rg' X'
        refine hy_send_ok ya ok erp xa.1.1 xa.1.2.1 hT z hs hC w ?_
        intro rl' no' co' ty' tl' ch' we' ro' wh' hv' pr' iw' cd' Y'
        exact ⟨rfl, hr_in A T C _ h d g q e _ n1 _ M1 _ t1 _ _ _ k' W' R1 w1 k1 W1 oc' sw' iz' lz' nd' sn' tx' tn' rg' rl' no' co' ty' tl' ch' pt we' ro' wh' hv' pr' iw' cd' (hu_PF_send pf hs z w X'.1) X' Y'⟩
      · refine hx_send_room xa hT z hs hC hc (by omega) ?_
        refine hy_send_room ya ok erp xa.1.1 xa.1.2.1 hT z hs hC hc (by omega) ?_
        intro rl' no' co' we' ro' wh' hv' pr' iw' cd'
        exact ⟨rfl, hr_in A T C c h d g q e n0 n1 M0 M1 t0 t1 b R0 w0 k0 W0 R1 w1 k1 W1 oc sw iz lz nd sn tx tn rg rl' no' co' ty tl ch pt we' ro' wh' hv' pr' iw' cd' pf xa ya⟩
    · refine hx_send_full xa hT (by omega) (by omega) hs ?_
      refine hy_send_full ya hA hT (by omega) (by omega) hs ?_
      exact ⟨rfl, hr_in A T C c h d g q e n0 n1 M0 M1 t0 t1 b R0 w0 k0 W0 R1 w1 k1 W1 oc sw iz lz nd sn tx tn rg rl no co ty tl ch pt we ro wh hv pr iw cd pf xa ya⟩
/-- the run's loop: what the reference asks from here on it asks at the start -/
theorem hr_sendRun {kk tm s : Nat} {v0 : SY} (htm : tm ≤ 16) : ∀ (j i : Nat) (A T C c h d g q e n0 n1 M0 M1 : Nat) (t0 t1 b R0 w0 k0 W0 R1 w1 k1 W1 : Nat → Nat) (oc sw iz lz nd sn tx tn rg : Nat → Int32), i + j = tm → s < A → hu_PF A T C c h d g q e n0 n1 M0 M1 t0 t1 b R0 w0 k0 W0 R1 w1 k1 W1 → hu_XA A c h n0 n1 M0 M1 t0 t1 b R0 w0 k0 W0 R1 w1 k1 W1 oc sw iz lz nd sn tx tn rg →
    (∀ posty : Int32 → SY → Prop, (∀ (rl no co : Int32) (ty tl ch pt we ro wh hv pr iw cd : Nat → Int32), hu_YA c (hu_dv k1 M1 d * 2 ^ q + g) (hu_dl k1 M1 d + q) n0 n1 t0 t1 b ty tl ch pt → wY_sendRun_28 posty (nI s) (nI tm) (j + 1) (nI i) (nI i) (nI A) (nI T) (nI C) (nI c) (nI (hu_dl k1 M1 d + q)) (nI e) rl no co ty tl ch pt we ro wh hv pr iw cd) → wpY_sendRun posty v0 (nI s) (nI tm)) →
    wX_sendRun_25 (fun r u' => wpY_sendRun (fun r' v' => r' = r ∧ i_Rel kk u' v') v0 (nI s) (nI tm)) (nI s) (nI tm) (j + 1) (nI i) (nI A) (nI T) (nI C) (nI h) (nI c) (nI (hu_dv k1 M1 d * 2 ^ q + g)) (nI (hu_dl k1 M1 d + q)) (nI d) (nI g) (nI q) (nI e) oc sw iz lz nd sn tx tn rg := by
  intro j
  induction j with
  | zero =>
    intro i A T C c h d g q e n0 n1 M0 M1 t0 t1 b R0 w0 k0 W0 R1 w1 k1 W1 oc sw iz lz nd sn tx tn rg hij hs pf xa G
    have e1 : i = tm := by omega
    subst e1
    refine br_t (nI_le (Nat.le_refl _) (by omega)) (G _ ?_)
    intro rl no co ty tl ch pt we ro wh hv pr iw cd ya
    exact br_t (nI_le (Nat.le_refl _) (by omega)) ⟨rfl, hr_in A T C c h d g q e n0 n1 M0 M1 t0 t1 b R0 w0 k0 W0 R1 w1 k1 W1 oc sw iz lz nd sn tx tn rg rl no co ty tl ch pt we ro wh hv pr iw cd pf xa ya⟩
  | succ j ih =>
    intro i A T C c h d g q e n0 n1 M0 M1 t0 t1 b R0 w0 k0 W0 R1 w1 k1 W1 oc sw iz lz nd sn tx tn rg hij hs pf xa G
    have hA := xa.1.1.2.1
    have hT := pf.1
    have hC := pf.2.1
    have hc := pf.2.2.1
    have hh := pf.2.2.2.1
    have hn := pf.2.2.2.2.2.1
    have ok := pf.2.2.2.2.2.2.2.1
    have erp := pf.2.2.2.2.2.2.2.2.1
    have lt : ¬ nI tm ≤ nI i := nI_ge (by omega) (by omega)
    refine br_f lt ?_
    by_cases z : n0 < T
    · by_cases w : c + hu_cl A M0 k0 R0 w0 s ≤ C
      · have lb := (hu_cl_le xa.1.1 xa.1.2.1.1 xa.1.2.1.2.1 hs).1
        have ge : (0 : Int32) ≤ nI (hu_cl A M0 k0 R0 w0 s) := nI_pos' (by omega)
        refine hx_send_ok xa hT z hs hC hh w ?_
        intro k' W' oc' sw' iz' lz' nd' sn' tx' tn' rg' X'
        refine br_t ge (nm_r (nI_1 i) (ih (i + 1) A T C _ h d g q e _ n1 _ M1 _ t1 _ _ _ k' W' R1 w1 k1 W1 oc' sw' iz' lz' nd' sn' tx' tn' rg' (by omega) hs (hu_PF_send pf hs z w X'.1) X' ?_))
        intro posty H
        refine G posty ?_
        intro rl no co ty tl ch pt we ro wh hv pr iw cd ya
        refine br_f lt ?_
        refine hy_send_ok ya ok erp xa.1.1 xa.1.2.1 hT z hs hC w ?_
        intro rl' no' co' ty' tl' ch' we' ro' wh' hv' pr' iw' cd' Y'
        exact br_t ge (nm_r (nI_1 i) (nm_r (nI_1 i) (H rl' no' co' ty' tl' ch' pt we' ro' wh' hv' pr' iw' cd' Y')))
      · refine hx_send_room xa hT z hs hC hc (by omega) ?_
        refine br_f (by decide) (G _ ?_)
        intro rl no co ty tl ch pt we ro wh hv pr iw cd ya
        refine br_f lt ?_
        refine hy_send_room ya ok erp xa.1.1 xa.1.2.1 hT z hs hC hc (by omega) ?_
        intro rl' no' co' we' ro' wh' hv' pr' iw' cd'
        exact br_f (by decide) ⟨rfl, hr_in A T C c h d g q e n0 n1 M0 M1 t0 t1 b R0 w0 k0 W0 R1 w1 k1 W1 oc sw iz lz nd sn tx tn rg rl' no' co' ty tl ch pt we' ro' wh' hv' pr' iw' cd' pf xa ya⟩
    · refine hx_send_full xa hT (by omega) (by omega) hs ?_
      refine br_f (by decide) (G _ ?_)
      intro rl no co ty tl ch pt we ro wh hv pr iw cd ya
      refine br_f lt ?_
      refine hy_send_full ya hA hT (by omega) (by omega) hs ?_
      exact br_f (by decide) ⟨rfl, hr_in A T C c h d g q e n0 n1 M0 M1 t0 t1 b R0 w0 k0 W0 R1 w1 k1 W1 oc sw iz lz nd sn tx tn rg rl no co ty tl ch pt we ro wh hv pr iw cd pf xa ya⟩
theorem i_vc_sendRun {k : Nat} {u : SX} {v : SY} (I : i_Rel k u v) (hk : k + 3 ≤ 1539) (v1 : Int32) (v2 : Int32) : wpX_sendRun (fun r u' => wpY_sendRun (fun r' v' => r' = r ∧ i_Rel (k + 3) u' v') v v1 v2) u v1 v2 := by
  refine hr_el (P := fun u v => wpX_sendRun (fun r u' => wpY_sendRun (fun r' v' => r' = r ∧ i_Rel (k + 3) u' v') v v1 v2) u v1 v2) I ?_
  intro A T C c h d g q e n0 n1 M0 M1 t0 t1 b R0 w0 k0 W0 R1 w1 k1 W1 oc sw iz lz nd sn tx tn rg rl no co ty tl ch pt we ro wh hv pr iw cd pf xa ya
  have hA := xa.1.1.2.1
  have R : i_Rel (k + 3) (nI A, nI T, nI C, nI h, nI c, nI (hu_dv k1 M1 d * 2 ^ q + g), nI (hu_dl k1 M1 d + q), nI d, nI g, nI q, nI e, oc, sw, iz, lz, nd, sn, tx, tn, rg) (nI A, nI T, nI C, nI c, nI (hu_dl k1 M1 d + q), nI e, rl, no, co, ty, tl, ch, pt, we, ro, wh, hv, pr, iw, cd) := hr_in A T C c h d g q e n0 n1 M0 M1 t0 t1 b R0 w0 k0 W0 R1 w1 k1 W1 oc sw iz lz nd sn tx tn rg rl no co ty tl ch pt we ro wh hv pr iw cd pf xa ya
  have bad : (v1 < 0 ∨ nI A ≤ v1) → wpX_sendRun (fun r u' => wpY_sendRun (fun r' v' => r' = r ∧ i_Rel (k + 3) u' v') (nI A, nI T, nI C, nI c, nI (hu_dl k1 M1 d + q), nI e, rl, no, co, ty, tl, ch, pt, we, ro, wh, hv, pr, iw, cd) v1 v2) (nI A, nI T, nI C, nI h, nI c, nI (hu_dv k1 M1 d * 2 ^ q + g), nI (hu_dl k1 M1 d + q), nI d, nI g, nI q, nI e, oc, sw, iz, lz, nd, sn, tx, tn, rg) v1 v2 := by
    intro y
    unfold wpX_sendRun
    refine hx_badSymbol_no y ?_
    refine br_f (by decide) ?_
    unfold wpY_sendRun
    refine hy_badSymbol_no y ?_
    exact br_f (by decide) ⟨rfl, R⟩
  rcases pk_ix v1 (n := A) (by omega) with y | y | ⟨s, hs, rfl⟩
  · exact bad (Or.inl y)
  · exact bad (Or.inr y)
  · clear bad
    rcases hr_num v2 (N := 16) (by omega) with c1 | c1 | ⟨tm, j1, j2, rfl⟩
    · unfold wpX_sendRun
      refine hx_badSymbol_ok hA hs ?_
      refine br_t rfl (br_t c1 ?_)
      unfold wpY_sendRun
      refine hy_badSymbol_ok hA hs ?_
      exact br_t rfl (br_t c1 ⟨rfl, R⟩)
    · unfold wpX_sendRun
      refine hx_badSymbol_ok hA hs ?_
      refine br_t rfl (br_f c1.1 (br_f c1.2 ?_))
      unfold wpY_sendRun
      refine hy_badSymbol_ok hA hs ?_
      exact br_t rfl (br_f c1.1 (br_f c1.2 ⟨rfl, R⟩))
    · have a1 : ¬ nI tm < 1 := nI_nlt (b := 1) j1 (by omega)
      have a2 : nI tm ≤ 16 := nI_le (b := 16) j2 (by omega)
      have main := hr_sendRun (kk := k + 3) (s := s) (v0 := (nI A, nI T, nI C, nI c, nI (hu_dl k1 M1 d + q), nI e, rl, no, co, ty, tl, ch, pt, we, ro, wh, hv, pr, iw, cd)) j2 tm 0 A T C c h d g q e n0 n1 M0 M1 t0 t1 b R0 w0 k0 W0 R1 w1 k1 W1 oc sw iz lz nd sn tx tn rg (by omega) hs pf xa ?_
      · unfold wpX_sendRun
        refine hx_badSymbol_ok hA hs ?_
        exact br_t rfl (br_f a1 (br_t a2 ⟨tm + 1, main⟩))
      · intro posty H
        unfold wpY_sendRun
        refine hy_badSymbol_ok hA hs ?_
        exact br_t rfl (br_f a1 (br_t a2 ⟨tm + 1, H rl no co ty tl ch pt we ro wh hv pr iw cd ya⟩))
end
section
/-! the owed rows: feed, pump -/
section
variable {A c P l bit n0 n1 M s : Nat} {t0 t1 b k R wt W : Nat → Nat}
variable {yA yT yC cl pl cf rl no co : Int32} {ty tl ch pt we ro wh hv pr iw cd : Nat → Int32}
theorem hy_take_s {post : Int32 → SY → Prop} (Y : hu_YA c P l n0 n1 t0 t1 b ty tl ch pt) (ok : hu_OK A n1 t1) (erp : hu_rp A t1 n1 = (M, R, wt)) (hr : hu_ro A M R wt) (hci : hu_CI M R wt k W 0 n1) (hl : l ≤ 30) (hP : P < 2 ^ l) (hb : bit < 2) (hn : n1 < 256) (hn0 : n0 ≤ 256)
    (hs : s < A) (e1 : hu_cl A M k R wt s = l + 1) (e2 : hu_cv A M k R wt s = 2 * P + bit)
    (K : ∀ (rl' no' co' : Int32) (ty' tl' pt' we' ro' wh' hv' pr' iw' cd' : Nat → Int32), hu_YA c 0 0 n0 (n1 + 1) t0 (hu_up t1 n1 s) b ty' tl' ch pt' →
      post (nI s) (nI A, yT, yC, cl, 0, cf, rl', no', co', ty', tl', ch, pt', we', ro', wh', hv', pr', iw', cd')) :
    wpY_take post (nI A, yT, yC, cl, nI l, cf, rl, no, co, ty, tl, ch, pt, we, ro, wh, hv, pr, iw, cd) (nI bit) := by
  refine hy_take Y ok erp hr hci hl hP hb hn hn0 ?_ ?_
  · intro s' rl' no' co' ty' tl' pt' we' ro' wh' hv' pr' iw' cd' h1 h2 h3 Y'
    have e := hu_code_inj hr hci.1 hci.2.1 h1 hs (by rw [h2, e1]) (by rw [h3, e2])
    subst e
    exact K rl' no' co' ty' tl' pt' we' ro' wh' hv' pr' iw' cd' Y'
  · intro rl' no' co' pt' we' ro' wh' hv' pr' iw' cd' h1
    exact absurd ⟨e1, e2⟩ (h1 s hs)
theorem hy_take_n {post : Int32 → SY → Prop} (Y : hu_YA c P l n0 n1 t0 t1 b ty tl ch pt) (ok : hu_OK A n1 t1) (erp : hu_rp A t1 n1 = (M, R, wt)) (hr : hu_ro A M R wt) (hci : hu_CI M R wt k W 0 n1) (hl : l ≤ 30) (hP : P < 2 ^ l) (hb : bit < 2) (hn : n1 < 256) (hn0 : n0 ≤ 256)
    (none : ∀ s, s < A → ¬ (hu_cl A M k R wt s = l + 1 ∧ hu_cv A M k R wt s = 2 * P + bit))
    (K : ∀ (rl' no' co' : Int32) (pt' we' ro' wh' hv' pr' iw' cd' : Nat → Int32), hu_YA c (2 * P + bit) (l + 1) n0 n1 t0 t1 b ty tl ch pt' →
      post (-4) (nI A, yT, yC, cl, nI (l + 1), cf, rl', no', co', ty, tl, ch, pt', we', ro', wh', hv', pr', iw', cd')) :
    wpY_take post (nI A, yT, yC, cl, nI l, cf, rl, no, co, ty, tl, ch, pt, we, ro, wh, hv, pr, iw, cd) (nI bit) := by
  refine hy_take Y ok erp hr hci hl hP hb hn hn0 ?_ ?_
  · intro s' rl' no' co' ty' tl' pt' we' ro' wh' hv' pr' iw' cd' h1 h2 h3 Y'
    exact absurd ⟨h2, h3⟩ (none s' h1)
  · intro rl' no' co' pt' we' ro' wh' hv' pr' iw' cd' _ Y'
    exact K rl' no' co' pt' we' ro' wh' hv' pr' iw' cd' Y'
end
section
variable {A T C c h d g q e n0 n1 M0 M1 s bit : Nat} {t0 t1 b R0 w0 k0 W0 R1 w1 k1 W1 k' W' : Nat → Nat}
variable {eA eT eC rh rc pb pc ds tb tc un : Int32} {oc sw iz lz nd sn tx tn rg : Nat → Int32}
theorem hu_PF_s (pf : hu_PF A T C c h d g q e n0 n1 M0 M1 t0 t1 b R0 w0 k0 W0 R1 w1 k1 W1) (hs : s < A) (hn : n1 < T)
    (X' : hu_XT 1 A (n1 + 1) (hu_us A (M1, R1, w1) s).1 (hu_us A (M1, R1, w1) s).2.1 (hu_us A (M1, R1, w1) s).2.2 k' W' oc sw iz lz nd sn) :
    hu_PF A T C c h 0 0 0 e n0 (n1 + 1) M0 (hu_us A (M1, R1, w1) s).1 t0 (hu_up t1 n1 s) b R0 w0 k0 W0 (hu_us A (M1, R1, w1) s).2.1 (hu_us A (M1, R1, w1) s).2.2 k' W' := by
  obtain ⟨f1, f2, f3, f4, f5, f6, f7, f8, f9, f10, f11, f12, f13⟩ := pf
  have o := hu_OK_app f10 hs f11 X'.1 X'.2.1
  exact ⟨f1, f2, f3, f4, f5, f6, hn, f8, f9, o.1, o.2, f12, hu_DS0 X'.1 X'.2.1.1 X'.2.1.2.1⟩
theorem hu_PF_d {d' g' q' : Nat} (pf : hu_PF A T C c h d g q e n0 n1 M0 M1 t0 t1 b R0 w0 k0 W0 R1 w1 k1 W1) (D : hu_DS A M1 R1 w1 k1 d' g' q') : hu_PF A T C c h d' g' q' e n0 n1 M0 M1 t0 t1 b R0 w0 k0 W0 R1 w1 k1 W1 := by
  obtain ⟨f1, f2, f3, f4, f5, f6, f7, f8, f9, f10, f11, f12, f13⟩ := pf
  exact ⟨f1, f2, f3, f4, f5, f6, f7, f8, f9, f10, f11, f12, D⟩
theorem hu_PF_e {e' : Nat} (pf : hu_PF A T C c h d g q e n0 n1 M0 M1 t0 t1 b R0 w0 k0 W0 R1 w1 k1 W1) (he : e' < 2) : hu_PF A T C c h d g q e' n0 n1 M0 M1 t0 t1 b R0 w0 k0 W0 R1 w1 k1 W1 := by
  obtain ⟨f1, f2, f3, f4, f5, f6, f7, f8, f9, f10, f11, f12, f13⟩ := pf
  exact ⟨f1, f2, f3, f4, he, f6, f7, f8, f9, f10, f11, f12, f13⟩
/-- the bits read so far: few, and their number small -/
theorem hu_PF_l (pf : hu_PF A T C c h d g q e n0 n1 M0 M1 t0 t1 b R0 w0 k0 W0 R1 w1 k1 W1) (xa : hu_XA A c h n0 n1 M0 M1 t0 t1 b R0 w0 k0 W0 R1 w1 k1 W1 oc sw iz lz nd sn tx tn rg) : hu_dl k1 M1 d + q ≤ 30 ∧ hu_dv k1 M1 d * 2 ^ q + g < 2 ^ (hu_dl k1 M1 d + q) := by
  have D := pf.2.2.2.2.2.2.2.2.2.2.2.2
  have I1 := xa.2.1
  exact ⟨(hu_DS_l I1.1 I1.2.1.1 I1.2.1.2.1 D).1, hu_pw_add (hu_dv_lt I1.2.1.1 I1.2.1.2.1 _ _ (Nat.le_refl _) D.1) D.2.1⟩
end
theorem i_vc_feed {k : Nat} {u : SX} {v : SY} (I : i_Rel k u v) (hk : k + 3 ≤ 1539) (v1 : Int32) : wpX_feed (fun r u' => wpY_feed (fun r' v' => r' = r ∧ i_Rel (k + 3) u' v') v v1) u v1 := by
  refine hr_el (P := fun u v => wpX_feed (fun r u' => wpY_feed (fun r' v' => r' = r ∧ i_Rel (k + 3) u' v') v v1) u v1) I ?_
  intro A T C c h d g q e n0 n1 M0 M1 t0 t1 b R0 w0 k0 W0 R1 w1 k1 W1 oc sw iz lz nd sn tx tn rg rl no co ty tl ch pt we ro wh hv pr iw cd pf xa ya
  have hT := pf.1
  have hn0 := pf.2.2.2.2.2.1
  have hn1 := pf.2.2.2.2.2.2.1
  have ok := pf.2.2.2.2.2.2.2.2.2.1
  have erp := pf.2.2.2.2.2.2.2.2.2.2.1
  have D := pf.2.2.2.2.2.2.2.2.2.2.2.2
  have L := hu_PF_l pf xa
  have main : ∀ bit : Nat, bit < 2 → (∀ r u', wY_feed_11 (fun r' v' => r' = r ∧ i_Rel (k + 3) u' v') (nI bit) (nI A) (nI T) (nI C) (nI c) (nI (hu_dl k1 M1 d + q)) (nI e) rl no co ty tl ch pt we ro wh hv pr iw cd → wpY_feed (fun r' v' => r' = r ∧ i_Rel (k + 3) u' v') (nI A, nI T, nI C, nI c, nI (hu_dl k1 M1 d + q), nI e, rl, no, co, ty, tl, ch, pt, we, ro, wh, hv, pr, iw, cd) (nI bit)) → wX_feed_11 (fun r u' => wpY_feed (fun r' v' => r' = r ∧ i_Rel (k + 3) u' v') (nI A, nI T, nI C, nI c, nI (hu_dl k1 M1 d + q), nI e, rl, no, co, ty, tl, ch, pt, we, ro, wh, hv, pr, iw, cd) (nI bit)) (nI bit) (nI A) (nI T) (nI C) (nI h) (nI c) (nI (hu_dv k1 M1 d * 2 ^ q + g)) (nI (hu_dl k1 M1 d + q)) (nI d) (nI g) (nI q) (nI e) oc sw iz lz nd sn tx tn rg := by
    intro bit hb G
    unfold wX_feed_11
    rw [xa.2.2.2.1]
    by_cases z : n1 < T
    · have lt : nI n1 < nI T := nI_lt z (by omega)
      refine br_t lt ?_
      refine hx_takeBit xa D hb (by omega) (by omega) ?_ ?_
      · intro s k' W' oc' sw' iz' lz' nd' sn' tx' tn' hs h1 h2 X'
        refine G _ _ ?_
        unfold wY_feed_11
        rw [ya.2.1]
        refine br_t lt ?_
        refine hy_take_s ya ok erp xa.2.1.1 xa.2.1.2.1 L.1 L.2 hb (by omega) (by omega) hs h1 h2 ?_
        intro rl' no' co' ty' tl' pt' we' ro' wh' hv' pr' iw' cd' Y'
        exact ⟨rfl, hr_in A T C c h 0 0 0 0 n0 _ M0 _ t0 _ b R0 w0 k0 W0 _ _ k' W' oc' sw' iz' lz' nd' sn' tx' tn' rg rl' no' co' ty' tl' ch pt' we' ro' wh' hv' pr' iw' cd' (hu_PF_s (hu_PF_e pf (by omega)) hs z X'.2.1) X' Y'⟩
      · intro d' g' q' D' h1 h2 h3
        refine G _ _ ?_
        unfold wY_feed_11
        rw [ya.2.1]
        refine br_t lt ?_
        refine hy_take_n ya ok erp xa.2.1.1 xa.2.1.2.1 L.1 L.2 hb (by omega) (by omega) h3 ?_
        intro rl' no' co' pt' we' ro' wh' hv' pr' iw' cd' Y'
        refine ⟨rfl, ?_⟩
        rw [← h1, ← h2]
        rw [← h1, ← h2] at Y'
        exact hr_in A T C c h d' g' q' 0 n0 n1 M0 M1 t0 t1 b R0 w0 k0 W0 R1 w1 k1 W1 oc sw iz lz nd sn tx tn rg rl' no' co' ty tl ch pt' we' ro' wh' hv' pr' iw' cd' (hu_PF_d (hu_PF_e pf (by omega)) D') xa Y'
    · have lt : ¬ nI n1 < nI T := nI_nlt (by omega) (by omega)
      refine br_f lt (G _ _ ?_)
      unfold wY_feed_11
      rw [ya.2.1]
      exact br_f lt ⟨rfl, hr_in A T C c h d g q e n0 n1 M0 M1 t0 t1 b R0 w0 k0 W0 R1 w1 k1 W1 oc sw iz lz nd sn tx tn rg rl no co ty tl ch pt we ro wh hv pr iw cd pf xa ya⟩
  rcases hr_side v1 with x | x | x
  · subst x
    exact br_t rfl (main 0 (by omega) (fun r u' H => br_t rfl H))
  · subst x
    exact br_f (by decide) (br_t rfl (main 1 (by omega) (fun r u' H => br_f (by decide) (br_t rfl H))))
  · exact br_f x.1 (br_f x.2 (br_f x.1 (br_f x.2 ⟨rfl, hr_in A T C c h d g q e n0 n1 M0 M1 t0 t1 b R0 w0 k0 W0 R1 w1 k1 W1 oc sw iz lz nd sn tx tn rg rl no co ty tl ch pt we ro wh hv pr iw cd pf xa ya⟩)))
section
variable {c : Nat} {b : Nat → Nat}
variable {yA yT yC cl pl cf rl no co : Int32} {ty tl ch pt we ro wh hv pr iw cd : Nat → Int32}
theorem hy_pump_57 {post : Int32 → SY → Prop} {J : Int32 → Int32 → Int32 → Int32 → Int32 → Int32 → Int32 → Int32 → Int32 → Int32 → Int32 → (Nat → Int32) → (Nat → Int32) → (Nat → Int32) → (Nat → Int32) → (Nat → Int32) → (Nat → Int32) → (Nat → Int32) → (Nat → Int32) → (Nat → Int32) → (Nat → Int32) → (Nat → Int32) → Prop} {x1 x2 x3 x4 : Int32} (hc : c ≤ 256) (hc1 : 1 ≤ c)
    (K : ∀ ch' : Nat → Int32, (∀ i, i < c - 1 → ch' i = nI (b (i + 1))) → wpY_take (fun _ u => match u with | (yA', yT', yC', cl', pl', cf', rl', no', co', ty', tl', ch', pt', we', ro', wh', hv', pr', iw', cd') => J (x2 + 1) (x3 + 1) yA' yT' yC' cl' pl' cf' rl' no' co' ty' tl' ch' pt' we' ro' wh' hv' pr' iw' cd') (yA, yT, yC, nI (c - 1), pl, cf, rl, no, co, ty, tl, ch', pt, we, ro, wh, hv, pr, iw, cd) x4) :
    ∀ (e i f : Nat) (ch : Nat → Int32), 1 ≤ i → i + e = c → e < f → (∀ j, j + 1 < i → ch j = nI (b (j + 1))) → (∀ j, i ≤ j → j < c → ch j = nI (b j)) → wY_pump_57 post J x1 x2 x3 x4 yA yT yC (nI c) pl cf rl no co f (nI i) ty tl ch pt we ro wh hv pr iw cd := by
  intro e
  induction e with
  | zero =>
    intro i f ch h1 hid hf a1 a2
    obtain ⟨f, rfl⟩ : ∃ g, f = g + 1 := ⟨f - 1, by omega⟩
    have e : i = c := by omega
    subst e
    refine br_t (nI_le (Nat.le_refl _) (by omega)) (nm_r (e' := nI (i - 1)) (pk_sub (b := 1) h1) ?_)
    have x := K ch (fun j hj => a1 j (by omega))
    simp only [forall_eq]
    exact x
  | succ e ih =>
    intro i f ch h1 hid hf a1 a2
    obtain ⟨f, rfl⟩ : ∃ g, f = g + 1 := ⟨f - 1, by omega⟩
    have e1 : nI i - 1 = nI (i - 1) := pk_sub (b := 1) h1
    refine br_f (nI_ge (by omega) (by omega)) ⟨vp_in_nI (by omega) (by omega), pk_in _ 256 (by omega) e1, nm_r (e' := upd ch (i - 1) (ch i)) (by rw [e1, nI_clamp (by omega), nI_clamp (by omega)]) (nm_r (nI_1 i) (ih (i + 1) f _ (by omega) (by omega) (by omega) ?_ ?_))⟩
    · intro j hj
      by_cases z : j = i - 1
      · rw [z, pk_us, a2 i (Nat.le_refl _) (by omega)]
        exact congrArg (fun y => nI (b y)) (by omega)
      · rw [pk_un z]; exact a1 j (by omega)
    · intro j h2 h3
      rw [pk_un (by omega)]
      exact a2 j (by omega) h3
end
end
section
/-! the owed row: pump -/
section
variable {A T C c h d g q e n0 n1 M0 M1 : Nat} {t0 t1 b R0 w0 k0 W0 R1 w1 k1 W1 : Nat → Nat}
variable {eA eT eC rh rc pb pc ds tb tc un : Int32} {oc sw iz lz nd sn tx tn rg : Nat → Int32}
theorem hu_PF_rm (pf : hu_PF A T C c h d g q e n0 n1 M0 M1 t0 t1 b R0 w0 k0 W0 R1 w1 k1 W1) (c1 : 1 ≤ c) : hu_PF A T C (c - 1) ((h + 1) % 256) d g q e n0 n1 M0 M1 t0 t1 (fun i => b (i + 1)) R0 w0 k0 W0 R1 w1 k1 W1 := by
  obtain ⟨f1, f2, f3, f4, f5, f6, f7, f8, f9, f10, f11, f12, f13⟩ := pf
  exact ⟨f1, f2, by omega, by omega, f5, f6, f7, f8, f9, f10, f11, fun i hi => f12 (i + 1) (by omega), f13⟩
theorem hu_XA_rm (xa : hu_XA A c h n0 n1 M0 M1 t0 t1 b R0 w0 k0 W0 R1 w1 k1 W1 oc sw iz lz nd sn tx tn rg) (c1 : 1 ≤ c) : hu_XA A (c - 1) ((h + 1) % 256) n0 n1 M0 M1 t0 t1 (fun i => b (i + 1)) R0 w0 k0 W0 R1 w1 k1 W1 oc sw iz lz nd sn tx tn rg := by
  obtain ⟨x1, x2, x3, x4, x5, x6, x7⟩ := xa
  refine ⟨x1, x2, x3, x4, x5, x6, fun i hi => ?_⟩
  have y := x7 (i + 1) (by omega)
  have e : ((h + 1) % 256 + i) % 256 = (h + (i + 1)) % 256 := by omega
  rw [e]
  exact y
theorem hx_removeBit {post : Int32 → SX → Prop} (xa : hu_XA A c h n0 n1 M0 M1 t0 t1 b R0 w0 k0 W0 R1 w1 k1 W1 oc sw iz lz nd sn tx tn rg) (hh : h < 256) (c1 : 1 ≤ c) (H : post (nI (b 0)) (eA, eT, eC, nI ((h + 1) % 256), nI (c - 1), pb, pc, ds, tb, tc, un, oc, sw, iz, lz, nd, sn, tx, tn, rg)) : wpX_removeBit post (eA, eT, eC, nI h, nI c, pb, pc, ds, tb, tc, un, oc, sw, iz, lz, nd, sn, tx, tn, rg) := by
  have y := xa.2.2.2.2.2.2 0 (by omega)
  have e : (h + 0) % 256 = h := by omega
  rw [e] at y
  exact ⟨vp_in_nI hh (by omega), nm_r (e' := nI (b 0)) (by rw [nI_clamp (by omega), y]) (nm_r (e' := nI ((h + 1) % 256)) (by rw [nI_1, hb_255 (by omega)]) (nm_r (e' := nI (c - 1)) (pk_sub (b := 1) c1) H))⟩
end
theorem hr_pump {kk cnt : Nat} {v0 : SY} (hcnt : cnt ≤ 16) : ∀ (j i : Nat) (A T C c h d g q e n0 n1 M0 M1 : Nat) (t0 t1 b R0 w0 k0 W0 R1 w1 k1 W1 : Nat → Nat) (oc sw iz lz nd sn tx tn rg : Nat → Int32), i + j = cnt → hu_PF A T C c h d g q e n0 n1 M0 M1 t0 t1 b R0 w0 k0 W0 R1 w1 k1 W1 → hu_XA A c h n0 n1 M0 M1 t0 t1 b R0 w0 k0 W0 R1 w1 k1 W1 oc sw iz lz nd sn tx tn rg →
    (∀ posty : Int32 → SY → Prop, (∀ (rl no co : Int32) (ty tl ch pt we ro wh hv pr iw cd : Nat → Int32), hu_YA c (hu_dv k1 M1 d * 2 ^ q + g) (hu_dl k1 M1 d + q) n0 n1 t0 t1 b ty tl ch pt → wY_pump_17 posty (nI cnt) (j + 1) (nI i) (nI i) (nI A) (nI T) (nI C) (nI c) (nI (hu_dl k1 M1 d + q)) (nI e) rl no co ty tl ch pt we ro wh hv pr iw cd) → wpY_pump posty v0 (nI cnt)) →
    wX_pump_15 (fun r u' => wpY_pump (fun r' v' => r' = r ∧ i_Rel kk u' v') v0 (nI cnt)) (nI cnt) (j + 1) (nI i) (nI A) (nI T) (nI C) (nI h) (nI c) (nI (hu_dv k1 M1 d * 2 ^ q + g)) (nI (hu_dl k1 M1 d + q)) (nI d) (nI g) (nI q) (nI e) oc sw iz lz nd sn tx tn rg := by
  intro j
  induction j with
  | zero =>
    intro i A T C c h d g q e n0 n1 M0 M1 t0 t1 b R0 w0 k0 W0 R1 w1 k1 W1 oc sw iz lz nd sn tx tn rg hij pf xa G
    have e1 : i = cnt := by omega
    subst e1
    refine br_t (nI_le (Nat.le_refl _) (by omega)) (G _ ?_)
    intro rl no co ty tl ch pt we ro wh hv pr iw cd ya
    exact br_t (nI_le (Nat.le_refl _) (by omega)) ⟨rfl, hr_in A T C c h d g q e n0 n1 M0 M1 t0 t1 b R0 w0 k0 W0 R1 w1 k1 W1 oc sw iz lz nd sn tx tn rg rl no co ty tl ch pt we ro wh hv pr iw cd pf xa ya⟩
  | succ j ih =>
    intro i A T C c h d g q e n0 n1 M0 M1 t0 t1 b R0 w0 k0 W0 R1 w1 k1 W1 oc sw iz lz nd sn tx tn rg hij pf xa G
    have hT := pf.1
    have hC := pf.2.1
    have hc := pf.2.2.1
    have hh := pf.2.2.2.1
    have hn0 := pf.2.2.2.2.2.1
    have hn1 := pf.2.2.2.2.2.2.1
    have ok := pf.2.2.2.2.2.2.2.2.2.1
    have erp := pf.2.2.2.2.2.2.2.2.2.2.1
    have bits := pf.2.2.2.2.2.2.2.2.2.2.2.1
    have D := pf.2.2.2.2.2.2.2.2.2.2.2.2
    have L := hu_PF_l pf xa
    have lt : ¬ nI cnt ≤ nI i := nI_ge (by omega) (by omega)
    refine br_f lt ?_
    by_cases c0 : c = 0
    · subst c0
      refine br_t rfl (G _ ?_)
      intro rl no co ty tl ch pt we ro wh hv pr iw cd ya
      exact br_f lt (br_t rfl ⟨rfl, hr_in A T C 0 h d g q e n0 n1 M0 M1 t0 t1 b R0 w0 k0 W0 R1 w1 k1 W1 oc sw iz lz nd sn tx tn rg rl no co ty tl ch pt we ro wh hv pr iw cd pf xa ya⟩)
    · have cne : ¬ nI c = 0 := nI_ne0 (by omega) (by omega)
      refine br_f cne ?_
      rw [xa.2.2.2.1]
      by_cases z : n1 < T
      · have ltT : nI n1 < nI T := nI_lt z (by omega)
        have b0 := bits 0 (by omega)
        have pf' := hu_PF_rm pf (by omega)
        have xa' := hu_XA_rm xa (by omega)
        have yst : ∀ (posty : Int32 → SY → Prop),
            (∀ (rl no co : Int32) (ty tl ch pt we ro wh hv pr iw cd : Nat → Int32), hu_YA (c - 1) (hu_dv k1 M1 d * 2 ^ q + g) (hu_dl k1 M1 d + q) n0 n1 t0 t1 (fun i => b (i + 1)) ty tl ch pt →
              wpY_take (fun _ u => match u with | (yA', yT', yC', cl', pl', cf', rl', no', co', ty', tl', ch', pt', we', ro', wh', hv', pr', iw', cd') => wY_pump_17 posty (nI cnt) (j + 1) (nI i + 1) (nI i + 1) yA' yT' yC' cl' pl' cf' rl' no' co' ty' tl' ch' pt' we' ro' wh' hv' pr' iw' cd') (nI A, nI T, nI C, nI (c - 1), nI (hu_dl k1 M1 d + q), nI e, rl, no, co, ty, tl, ch, pt, we, ro, wh, hv, pr, iw, cd) (nI (b 0))) → wpY_pump posty v0 (nI cnt) := by
          intro posty H
          refine G posty ?_
          intro rl no co ty tl ch pt we ro wh hv pr iw cd ya
          refine br_f lt (br_f cne ?_)
          rw [ya.2.1]
          refine br_t ltT (nm_r (e' := nI (b 0)) (ya.2.2.2.2.1 0 (by omega)) ⟨c + 1, ?_⟩)
          refine hy_pump_57 (b := b) (by omega) (by omega) ?_ (c - 1) 1 (c + 1) ch (Nat.le_refl _) (by omega) (by omega) (fun j hj => by omega) (fun j _ hj => ya.2.2.2.2.1 j hj)
          intro ch' hch
          exact H rl no co ty tl ch' pt we ro wh hv pr iw cd ⟨ya.1, ya.2.1, ya.2.2.1, ya.2.2.2.1, hch, ya.2.2.2.2.2⟩
        refine br_t ltT ?_
        refine hx_removeBit xa hh (by omega) ?_
        refine hx_takeBit xa' D b0 (by omega) (by omega) ?_ ?_
        · intro s k' W' oc' sw' iz' lz' nd' sn' tx' tn' hs h1 h2 X'
          refine nm_r (nI_1 i) ?_
          refine ih (i + 1) A T C (c - 1) ((h + 1) % 256) 0 0 0 e n0 _ M0 _ t0 _ _ R0 w0 k0 W0 _ _ k' W' oc' sw' iz' lz' nd' sn' tx' tn' rg (by omega) (hu_PF_s pf' hs z X'.2.1) X' ?_
          intro posty H
          refine yst posty ?_
          intro rl no co ty tl ch pt we ro wh hv pr iw cd ya
          refine hy_take_s ya ok erp xa.2.1.1 xa.2.1.2.1 L.1 L.2 b0 (by omega) (by omega) hs h1 h2 ?_
          intro rl' no' co' ty' tl' pt' we' ro' wh' hv' pr' iw' cd' Y'
          dsimp only
          rw [nI_1 i]
          exact H rl' no' co' ty' tl' ch pt' we' ro' wh' hv' pr' iw' cd' Y'
        · intro d' g' q' D' h1 h2 h3
          refine nm_r (nI_1 i) ?_
          rw [← h1, ← h2]
          refine ih (i + 1) A T C (c - 1) ((h + 1) % 256) d' g' q' e n0 n1 M0 M1 t0 t1 _ R0 w0 k0 W0 R1 w1 k1 W1 oc sw iz lz nd sn tx tn rg (by omega) (hu_PF_d pf' D') xa' ?_
          intro posty H
          refine yst posty ?_
          intro rl no co ty tl ch pt we ro wh hv pr iw cd ya
          refine hy_take_n ya ok erp xa.2.1.1 xa.2.1.2.1 L.1 L.2 b0 (by omega) (by omega) h3 ?_
          intro rl' no' co' pt' we' ro' wh' hv' pr' iw' cd' Y'
          dsimp only
          rw [nI_1 i]
          rw [← h1, ← h2] at Y'
          rw [← h1]
          exact H rl' no' co' ty tl ch pt' we' ro' wh' hv' pr' iw' cd' Y'
      · have ltT : ¬ nI n1 < nI T := nI_nlt (by omega) (by omega)
        refine br_f ltT (G _ ?_)
        intro rl no co ty tl ch pt we ro wh hv pr iw cd ya
        refine br_f lt (br_f cne ?_)
        rw [ya.2.1]
        exact br_f ltT ⟨rfl, hr_in A T C c h d g q e n0 n1 M0 M1 t0 t1 b R0 w0 k0 W0 R1 w1 k1 W1 oc sw iz lz nd sn tx tn rg rl no co ty tl ch pt we ro wh hv pr iw cd pf xa ya⟩
theorem i_vc_pump {k : Nat} {u : SX} {v : SY} (I : i_Rel k u v) (hk : k + 3 ≤ 1539) (v1 : Int32) : wpX_pump (fun r u' => wpY_pump (fun r' v' => r' = r ∧ i_Rel (k + 3) u' v') v v1) u v1 := by
  refine hr_el (P := fun u v => wpX_pump (fun r u' => wpY_pump (fun r' v' => r' = r ∧ i_Rel (k + 3) u' v') v v1) u v1) I ?_
  intro A T C c h d g q e n0 n1 M0 M1 t0 t1 b R0 w0 k0 W0 R1 w1 k1 W1 oc sw iz lz nd sn tx tn rg rl no co ty tl ch pt we ro wh hv pr iw cd pf xa ya
  have R : i_Rel (k + 3) (nI A, nI T, nI C, nI h, nI c, nI (hu_dv k1 M1 d * 2 ^ q + g), nI (hu_dl k1 M1 d + q), nI d, nI g, nI q, nI e, oc, sw, iz, lz, nd, sn, tx, tn, rg) (nI A, nI T, nI C, nI c, nI (hu_dl k1 M1 d + q), nI e, rl, no, co, ty, tl, ch, pt, we, ro, wh, hv, pr, iw, cd) := hr_in A T C c h d g q e n0 n1 M0 M1 t0 t1 b R0 w0 k0 W0 R1 w1 k1 W1 oc sw iz lz nd sn tx tn rg rl no co ty tl ch pt we ro wh hv pr iw cd pf xa ya
  rcases hr_num v1 (N := 16) (by omega) with c1 | c1 | ⟨cnt, j1, j2, rfl⟩
  · exact br_t c1 (br_t c1 ⟨rfl, R⟩)
  · exact br_f c1.1 (br_f c1.2 (br_f c1.1 (br_f c1.2 ⟨rfl, R⟩)))
  · have a1 : ¬ nI cnt < 1 := nI_nlt (b := 1) j1 (by omega)
    have a2 : nI cnt ≤ 16 := nI_le (b := 16) j2 (by omega)
    have main := hr_pump (kk := k + 3) (v0 := (nI A, nI T, nI C, nI c, nI (hu_dl k1 M1 d + q), nI e, rl, no, co, ty, tl, ch, pt, we, ro, wh, hv, pr, iw, cd)) j2 cnt 0 A T C c h d g q e n0 n1 M0 M1 t0 t1 b R0 w0 k0 W0 R1 w1 k1 W1 oc sw iz lz nd sn tx tn rg (by omega) pf xa ?_
    · exact br_f a1 (br_t a2 ⟨cnt + 1, main⟩)
    · intro posty H
      exact br_f a1 (br_t a2 ⟨cnt + 1, H rl no co ty tl ch pt we ro wh hv pr iw cd ya⟩)
end
section
/-! pathCost: the inner nodes' weights sum to weight times depth -/
section
variable {A M n : Nat} {k R wt W : Nat → Nat}
def hu_sum (f : Nat → Nat) : Nat → Nat
  | 0 => 0
  | n + 1 => hu_sum f n + f n
theorem hu_sum_s (f : Nat → Nat) (n : Nat) : hu_sum f (n + 1) = hu_sum f n + f n := rfl
theorem hu_sum_c {f g : Nat → Nat} : ∀ n, (∀ i, i < n → f i = g i) → hu_sum f n = hu_sum g n := by
  intro n
  induction n with
  | zero => intro _; rfl
  | succ n ih =>
    intro h
    rw [hu_sum_s, hu_sum_s, ih (fun i hi => h i (by omega)), h n (by omega)]
theorem hu_sum_a {f g : Nat → Nat} : ∀ n, hu_sum (fun i => f i + g i) n = hu_sum f n + hu_sum g n := by
  intro n
  induction n with
  | zero => rfl
  | succ n ih =>
    rw [hu_sum_s, hu_sum_s, hu_sum_s, ih]
    omega
theorem hu_sum_1 {f f' : Nat → Nat} {a c : Nat} (h : ∀ s, s ≠ a → f' s = f s) (ha : f' a = f a + c) : ∀ n, a < n → hu_sum f' n = hu_sum f n + c := by
  intro n
  induction n with
  | zero => intro z; omega
  | succ n ih =>
    intro z
    rw [hu_sum_s, hu_sum_s]
    by_cases d : a = n
    · subst d
      rw [ha, hu_sum_c a (fun i hi => h i (by omega))]
      omega
    · rw [ih (by omega), h n (by omega)]
      omega
theorem hu_sum_2 (f : Nat → Nat) : ∀ m, hu_sum f (2 * m + 1) = f 0 + hu_sum (fun t => f (2 * t + 1) + f (2 * t + 2)) m := by
  intro m
  induction m with
  | zero => show 0 + f 0 = f 0 + 0; omega
  | succ m ih =>
    have e : 2 * (m + 1) + 1 = 2 * m + 1 + 1 + 1 := by omega
    rw [e, hu_sum_s, hu_sum_s, ih, hu_sum_s]
    have e2 : 2 * m + 1 + 1 = 2 * m + 2 := rfl
    rw [e2]
    omega
/-- over inner slots, by rank -/
theorem hu_sum_in (h : hu_sh M k) (g : Nat → Nat) : ∀ n, n ≤ 2 * M + 1 → hu_sum (fun i => if k (i + 1) = k i then 0 else g i) n = hu_sum (fun t => g (hu_sl k (2 * M + 1) t)) (k n) := by
  intro n
  induction n with
  | zero => intro _; rw [h.1]; rfl
  | succ n ih =>
    intro hn
    rw [hu_sum_s, ih (by omega)]
    rcases h.2.2 n (by omega) with c | c
    · rw [if_pos c, c]; rfl
    · rw [if_neg (by omega), c, hu_sum_s]
      have sp := hu_sl_spec h (t := k n) (hu_inM h (by omega) c)
      have e : hu_sl k (2 * M + 1) (k n) = n := hu_inU h sp.1 (by omega) (by omega) c sp.2.1
      rw [e]
/-- over leaves, by their place in the row -/
theorem hu_sum_lf (h : hu_sh M k) (g : Nat → Nat) : ∀ n, n ≤ 2 * M + 1 → hu_sum (fun i => if k (i + 1) = k i then g (i - k i) else 0) n = hu_sum g (n - k n) := by
  intro n
  induction n with
  | zero => intro _; rw [h.1]; rfl
  | succ n ih =>
    intro hn
    have kid := hu_kid h (i := n) (by omega)
    rw [hu_sum_s, ih (by omega)]
    rcases h.2.2 n (by omega) with c | c
    · have e : n + 1 - k (n + 1) = (n - k n) + 1 := by omega
      rw [if_pos c, e, hu_sum_s]
    · have e : n + 1 - k (n + 1) = n - k n := by omega
      rw [if_neg (by omega), e]
      rfl
def hu_mem (R : Nat → Nat) : Nat → Nat → Bool
  | 0, _ => false
  | m + 1, s => if R m = s then true else hu_mem R m s
theorem hu_mem_t : ∀ m s, hu_mem R m s = true → ∃ j, j < m ∧ R j = s := by
  intro m
  induction m with
  | zero => intro s h; exact absurd h (by show ¬ false = true; decide)
  | succ m ih =>
    intro s h
    by_cases c : R m = s
    · exact ⟨m, by omega, c⟩
    · have e : hu_mem R (m + 1) s = hu_mem R m s := if_neg c
      rw [e] at h
      obtain ⟨j, h1, h2⟩ := ih s h
      exact ⟨j, by omega, h2⟩
theorem hu_mem_i : ∀ m s j, j < m → R j = s → hu_mem R m s = true := by
  intro m
  induction m with
  | zero => intro s j h; omega
  | succ m ih =>
    intro s j h e
    show (if R m = s then true else hu_mem R m s) = true
    by_cases c : R m = s
    · rw [if_pos c]
    · rw [if_neg c]
      refine ih s j ?_ e
      by_cases d : j = m
      · subst d; exact absurd e c
      · omega
theorem hu_sum_row {F : Nat → Nat} (hinj : ∀ a b, a ≤ M → b ≤ M → R a = R b → a = b) (hF : ∀ r, A ≤ r → F r = 0) : ∀ m, m ≤ M + 1 → hu_sum (fun j => F (R j)) m = hu_sum (fun s => if hu_mem R m s = true then F s else 0) A := by
  intro m
  induction m with
  | zero =>
    intro _
    have : ∀ n, hu_sum (fun s => if hu_mem R 0 s = true then F s else 0) n = 0 := by
      intro n
      induction n with
      | zero => rfl
      | succ n ih => rw [hu_sum_s, ih]; rfl
    rw [this]
    rfl
  | succ m ih =>
    intro hm
    rw [hu_sum_s, ih (by omega)]
    have nm : hu_mem R m (R m) = false := by
      cases c : hu_mem R m (R m) with
      | false => rfl
      | true =>
        obtain ⟨j, h1, h2⟩ := hu_mem_t m (R m) c
        have := hinj j m (by omega) (by omega) h2
        omega
    have same : ∀ s, s ≠ R m → (if hu_mem R (m + 1) s = true then F s else 0) = (if hu_mem R m s = true then F s else 0) := by
      intro s hs
      have e : hu_mem R (m + 1) s = hu_mem R m s := if_neg (fun z => hs z.symm)
      rw [e]
    by_cases c : R m < A
    · refine (hu_sum_1 (a := R m) (c := F (R m)) same ?_ A c).symm
      have e : hu_mem R (m + 1) (R m) = true := if_pos rfl
      rw [e, nm, if_pos rfl, if_neg (by decide)]
      omega
    · rw [hF (R m) (by omega)]
      exact (hu_sum_c A (fun s hs => same s (by omega))).symm
theorem hu_cost (hr : hu_ro A M R wt) (hc : hu_CI M R wt k W 0 n) : hu_sum (fun t => W (hu_sl k (2 * M + 1) t)) M = hu_sum (fun s => wt s * hu_cl A M k R wt s) A := by
  have h := hc.1
  have hp := hc.2.1
  have hA := hr.2.1
  have s1 := hu_sum_2 (fun i => W i * hu_dl k M i) M
  have s2 : hu_sum (fun t => W (2 * t + 1) * hu_dl k M (2 * t + 1) + W (2 * t + 2) * hu_dl k M (2 * t + 2)) M = hu_sum (fun t => W (hu_sl k (2 * M + 1) t) * hu_dl k M (hu_sl k (2 * M + 1) t) + W (hu_sl k (2 * M + 1) t)) M := by
    refine hu_sum_c M (fun t ht => ?_)
    have sp := hu_sl_spec h ht
    generalize hu_sl k (2 * M + 1) t = z at *
    have su := hc.2.2.2.2.1 z sp.1 (by omega)
    rw [hu_df0, sp.2.1] at su
    have d1 := hu_down h hp (bit := 1) sp.1 (by omega) (by omega)
    have d0 := hu_down h hp (bit := 0) sp.1 (by omega) (by omega)
    rw [sp.2.1] at d1 d0
    have e1 : 2 * t + 2 - 1 = 2 * t + 1 := by omega
    have e0 : 2 * t + 2 - 0 = 2 * t + 2 := by omega
    rw [e1] at d1
    rw [e0] at d0
    rw [d1.2.1, d0.2.1, ← Nat.add_mul]
    rw [Nat.add_zero] at su
    rw [← su, Nat.mul_add, Nat.mul_one]
  have z0 : W 0 * hu_dl k M 0 = 0 := by rw [hu_dl_0, Nat.mul_zero]
  rw [z0, s2, hu_sum_a] at s1
  -- all slots: leaves and inner nodes
  have s3 : hu_sum (fun i => W i * hu_dl k M i) (2 * M + 1) = hu_sum (fun i => (if k (i + 1) = k i then hu_lw wt (R (i - k i)) * hu_dl k M (hu_ls k M R (R (i - k i))) else 0) + (if k (i + 1) = k i then 0 else W i * hu_dl k M i)) (2 * M + 1) := by
    refine hu_sum_c _ (fun i hi => ?_)
    by_cases c : k (i + 1) = k i
    · rw [if_pos c, if_pos c, Nat.add_zero]
      rw [hu_ls_eq hr h hi c rfl, hc.2.2.2.2.2.1 i hi c]
    · rw [if_neg c, if_neg c, Nat.zero_add]
  have lfs := hu_sum_lf h (fun j => hu_lw wt (R j) * hu_dl k M (hu_ls k M R (R j))) (2 * M + 1) (Nat.le_refl _)
  rw [hu_sum_a, lfs, hu_sum_in h (fun i => W i * hu_dl k M i) (2 * M + 1) (Nat.le_refl _), h.2.1] at s3
  have e5 : 2 * M + 1 - M = M + 1 := by omega
  rw [e5] at s3
  have s4 : hu_sum (fun j => hu_lw wt (R j) * hu_dl k M (hu_ls k M R (R j))) (M + 1) = hu_sum (fun s => wt s * hu_cl A M k R wt s) A := by
    have F0 : ∀ r, A ≤ r → (fun r => if r < A then hu_lw wt r * hu_dl k M (hu_ls k M R r) else 0) r = 0 := fun r hr' => if_neg (by omega)
    have x := hu_sum_row (A := A) hr.2.2.1 F0 (M + 1) (Nat.le_refl _)
    have y : hu_sum (fun j => hu_lw wt (R j) * hu_dl k M (hu_ls k M R (R j))) (M + 1) = hu_sum (fun j => (fun r => if r < A then hu_lw wt r * hu_dl k M (hu_ls k M R r) else 0) (R j)) (M + 1) := by
      refine hu_sum_c _ (fun j hj => ?_)
      dsimp only
      by_cases c : R j = 100
      · rw [if_neg (by omega), c]
        show 0 * _ = 0
        rw [Nat.zero_mul]
      · rw [if_pos (hu_ro_sym hr (by omega) c).1]
    rw [y, x]
    refine hu_sum_c _ (fun s hs => ?_)
    by_cases c : wt s = 0
    · have nm : hu_mem R (M + 1) s = false := by
        cases d : hu_mem R (M + 1) s with
        | false => rfl
        | true =>
          obtain ⟨j, h1, h2⟩ := hu_mem_t (M + 1) s d
          exact absurd h2 (hu_ro_un hr (by omega) c j (by omega))
      rw [nm, if_neg (by decide), c, Nat.zero_mul]
    · obtain ⟨j, hj, hR⟩ := hu_ro_ex hr (s := s) (by omega) c
      rw [hu_mem_i (M + 1) s j (by omega) hR, if_pos rfl]
      rw [if_pos hs]
      unfold hu_lw hu_cl hu_qs
      have z : hu_tn A wt s = 0 := if_neg c
      rw [if_neg (by omega), if_neg c, z, Nat.add_zero]
  rw [s4] at s3
  omega
end
section
variable {A sd n M : Nat} {t R wt kk W : Nat → Nat}
variable {eA eT eC rh rc pb pc ds tb tc un : Int32} {oc sw iz lz nd sn tx tn rg : Nat → Int32}
variable {yA yT yC cl pl cf rl no co : Int32} {ty tl ch pt we ro wh hv pr iw cd : Nat → Int32}
theorem hx_pathCost_26 {post : Int32 → Prop} (I : hu_XT sd A n M R wt kk W oc sw iz lz nd sn) (hsd : sd < 2) (H : post (nI (hu_sum (fun t => W (hu_sl kk (2 * M + 1) t)) M))) :
    ∀ (e i f : Nat), i + e = M → e < f → wX_pathCost_26 post (nI sd) (nI M) eA eT eC rh rc pb pc ds tb tc un oc sw iz lz nd sn tx tn rg f (nI (hu_sum (fun t => W (hu_sl kk (2 * M + 1) t)) i)) (nI i) := by
  have hM := hu_ro_M I.1
  have tX := I.2.2.1
  intro e
  induction e with
  | zero =>
    intro i f hid hf
    obtain ⟨f, rfl⟩ : ∃ g, f = g + 1 := ⟨f - 1, by omega⟩
    have e : i = M := by omega
    subst e
    exact br_t (nI_le (Nat.le_refl _) (by omega)) H
  | succ e ih =>
    intro i f hid hf
    obtain ⟨f, rfl⟩ : ∃ g, f = g + 1 := ⟨f - 1, by omega⟩
    have sp := hu_sl_spec I.2.1.1 (t := i) (by omega)
    have nx := ih (i + 1) f (by omega) (by omega)
    rw [hu_sum_s] at nx
    have t1 := (tX.1 _ sp.1 (by omega)).2
    rw [sp.2.1] at t1
    refine br_f (nI_ge (by omega) (by omega)) ⟨pk_in _ 72 (by omega) (hx_36 sd i), nm_r (e' := nI (hu_sl kk (2 * M + 1) i)) (by rw [hx_c36 hsd (by omega), t1]) ⟨pk_in _ 144 (by omega) (hx_72 _ _), ?_⟩⟩
    rw [hx_c72 hsd (by omega), tX.2.2.2 _ sp.1]
    exact nm_r (nI_add _ _) (nm_r (nI_1 i) nx)
theorem hy_pathCost_19 {post : Int32 → SY → Prop} (hr : hu_ro A M R wt) (hc : hu_CI M R wt kk W 0 n) (hwt : ∀ x, wt x < 2 ^ 20) (yr : hu_YR M R wt ro we) (np : hu_NP M kk R W wh hv pr)
    (H : ∀ (co : Int32) (cd : Nat → Int32), post (nI (hu_sum (fun s => wt s * hu_cl A M kk R wt s) A)) (nI A, yT, yC, cl, pl, cf, rl, nI (2 * M + 1), co, ty, tl, ch, pt, we, ro, wh, hv, pr, iw, cd)) :
    ∀ (e i f : Nat) (co : Int32) (cd : Nat → Int32), i + e = A → e < f → wY_pathCost_19 post f (nI (hu_sum (fun s => wt s * hu_cl A M kk R wt s) i)) (nI i) (nI A) yT yC cl pl cf rl (nI (2 * M + 1)) co ty tl ch pt we ro wh hv pr iw cd := by
  have hA := hr.2.1
  intro e
  induction e with
  | zero =>
    intro i f co cd hid hf
    obtain ⟨f, rfl⟩ : ∃ g, f = g + 1 := ⟨f - 1, by omega⟩
    have e : i = A := by omega
    subst e
    exact br_t (nI_le (Nat.le_refl _) (by omega)) (H co cd)
  | succ e ih =>
    intro i f co cd hid hf
    obtain ⟨f, rfl⟩ : ∃ g, f = g + 1 := ⟨f - 1, by omega⟩
    have nx := fun co cd => ih (i + 1) f co cd (by omega) (by omega)
    rw [hu_sum_s] at nx
    refine br_f (nI_ge (by omega) (by omega)) ⟨vp_in_nI (by omega) (by omega), ?_⟩
    rw [nI_clamp (by omega), yr.2 i (by omega)]
    by_cases c : wt i = 0
    · rw [c, Nat.zero_mul, Nat.add_zero] at nx
      rw [c]
      exact br_t (nI_le (Nat.le_refl 0) (by decide)) (nm_r (nI_1 i) (nx co cd))
    · refine br_f (nI_nle (by omega) (by have := hwt i; omega)) ?_
      refine hy_make hr hc hwt yr np (by omega) ?_
      intro cd' B
      refine ⟨vp_in_nI (by omega) (by omega), ?_⟩
      rw [yr.2 i (by omega), pk_mul, nI_add]
      exact nm_e (nm_r (nI_1 i) (nx _ cd'))
theorem hm_pathCost {Q : SY → Prop} (S : hu_S sd A n M t R wt kk W oc sw iz lz nd sn tx tn ty tl) (hsd : sd < 2)
    (H : ∀ (rl no co : Int32) (we ro wh hv pr iw cd : Nat → Int32), Q (nI A, yT, yC, cl, pl, cf, rl, no, co, ty, tl, ch, pt, we, ro, wh, hv, pr, iw, cd)) : wpX_pathCost (fun r => wpY_pathCost (fun r' v' => r' = r ∧ Q v') (nI A, yT, yC, cl, pl, cf, rl, no, co, ty, tl, ch, pt, we, ro, wh, hv, pr, iw, cd) (nI sd)) (nI A, eT, eC, rh, rc, pb, pc, ds, tb, tc, un, oc, sw, iz, lz, nd, sn, tx, tn, rg) (nI sd) := by
  have I := S.1
  have hM := hu_ro_M I.1
  have csd : (nI sd).toNatClampNeg = sd := nI_clamp (by omega)
  unfold wpX_pathCost
  refine hx_badSide_ok hsd ?_
  refine br_t rfl ⟨vp_in_nI hsd (by omega), ?_⟩
  rw [csd, I.2.2.2.1]
  refine nm_r (e' := nI M) (by rw [hx_half (by omega) (by omega)]; exact congrArg nI (by omega)) ⟨M + 1, ?_⟩
  refine hx_pathCost_26 I hsd ?_ M 0 (M + 1) (by omega) (by omega)
  unfold wpY_pathCost
  refine hy_badSide_ok hsd ?_
  refine br_t rfl ?_
  refine hm_load S hsd ?_
  intro we' ro' wh' hv' pr' iw' yr np
  refine ⟨A + 1, ?_⟩
  refine hy_pathCost_19 I.1 I.2.1 (hu_wt20 S.2.2.2.2.2.2.2 S.2.2.2.2.2.2.1) yr np ?_ A 0 (A + 1) co cd (by omega) (by omega)
  intro co' cd'
  refine ⟨?_, H _ _ _ _ _ _ _ _ _ _⟩
  rw [hu_cost I.1 I.2.1]
end
theorem i_vc_pathCost {k : Nat} {u : SX} {v : SY} (I : i_Rel k u v) (hk : k + 3 ≤ 1539) (v1 : Int32) : wpX_pathCost (fun r => wpY_pathCost (fun r' v' => r' = r ∧ i_Rel (k + 3) u v') v v1) u v1 := by
  refine hr_el (P := fun u v => wpX_pathCost (fun r => wpY_pathCost (fun r' v' => r' = r ∧ i_Rel (k + 3) u v') v v1) u v1) I ?_
  intro A T C c h d g q e n0 n1 M0 M1 t0 t1 b R0 w0 k0 W0 R1 w1 k1 W1 oc sw iz lz nd sn tx tn rg rl no co ty tl ch pt we ro wh hv pr iw cd pf xa ya
  have R : ∀ (rl no co : Int32) (we ro wh hv pr iw cd : Nat → Int32), i_Rel (k + 3) (nI A, nI T, nI C, nI h, nI c, nI (hu_dv k1 M1 d * 2 ^ q + g), nI (hu_dl k1 M1 d + q), nI d, nI g, nI q, nI e, oc, sw, iz, lz, nd, sn, tx, tn, rg) (nI A, nI T, nI C, nI c, nI (hu_dl k1 M1 d + q), nI e, rl, no, co, ty, tl, ch, pt, we, ro, wh, hv, pr, iw, cd) := fun rl no co we ro wh hv pr iw cd => hr_in A T C c h d g q e n0 n1 M0 M1 t0 t1 b R0 w0 k0 W0 R1 w1 k1 W1 oc sw iz lz nd sn tx tn rg rl no co ty tl ch pt we ro wh hv pr iw cd pf xa ya
  rcases hr_side v1 with x | x | x
  · subst x; exact hm_pathCost (hr_S0 pf xa ya) (by omega) R
  · subst x; exact hm_pathCost (hr_S1 pf xa ya) (by omega) R
  · unfold wpX_pathCost
    refine hx_badSide_no x ?_
    refine br_f (by decide) ?_
    unfold wpY_pathCost
    refine hy_badSide_no x ?_
    exact br_f (by decide) ⟨rfl, R _ _ _ _ _ _ _ _ _ _⟩
end
