section
/-! pure rows to paste: stores, nI and lN arithmetic, masks, shifts, narrowing, branches by naturals (pk_le, pk_lt, pk_eq), loops (lp1 .. lp16: the measure of the state; rp1 ..: recursion), negatives. Take what you need -/
theorem pk_us {f : Nat → Int32} {k : Nat} {x : Int32} : upd f k x k = x := if_pos rfl
theorem pk_un {f : Nat → Int32} {k j : Nat} {x : Int32} (h : j ≠ k) : upd f k x j = f j := if_neg h
theorem pk_uLs {f : Nat → Int64} {k : Nat} {x : Int64} : vp_updL f k x k = x := if_pos rfl
theorem pk_uLn {f : Nat → Int64} {k j : Nat} {x : Int64} (h : j ≠ k) : vp_updL f k x j = f j := if_neg h
theorem pk_sub {a b : Nat} (h : b ≤ a) : nI a - nI b = nI (a - b) := by
  obtain ⟨c, rfl⟩ : ∃ c, a = c + b := ⟨a - b, by omega⟩
  rw [← nI_add, Int32.add_sub_cancel, Nat.add_sub_cancel]
theorem pk_m1 (n : Nat) : nI (n + 1) + (-1) = nI n := by
  rw [← nI_1, Int32.add_assoc, show (1 : Int32) + (-1) = 0 from rfl, Int32.add_zero]
theorem pk_mul (a b : Nat) : nI a * nI b = nI (a * b) := (Int32.ofNat_mul a b).symm
theorem pk_div {a d : Nat} (ha : a < 2 ^ 31) (h0 : 0 < d) (hd : d < 2 ^ 31) : nI a / nI d = nI (a / d) := by
  apply Int32.toInt_inj.mp
  rw [lg_idiv_nonneg (by rw [nI_toInt ha]; omega) (by rw [nI_toInt hd]; omega), nI_toInt ha, nI_toInt hd, nI_toInt (Nat.lt_of_le_of_lt (Nat.div_le_self a d) ha)]
  first | rfl | exact (Int.natCast_ediv _ _).symm
theorem pk_rem {a d : Nat} (ha : a < 2 ^ 31) (h0 : 0 < d) (hd : d < 2 ^ 31) : nI a - nI a / nI d * nI d = nI (a % d) := by
  rw [pk_div ha h0 hd, pk_mul, pk_sub (Nat.div_mul_le_self a d)]
  exact congrArg nI (by have := Nat.div_add_mod' a d; omega)
theorem pk_sub_toInt {a b : Nat} (ha : a < 2 ^ 30) (hb : b < 2 ^ 30) : (nI a - nI b).toInt = (a : Int) - b := by
  rw [Int32.toInt_sub, nI_toInt (by omega), nI_toInt (by omega)]
  exact Int.bmod_eq_of_le (by omega) (by omega)
theorem pk_sneg {a b : Nat} (hb : b < 2 ^ 30) (h : a < b) : nI a - nI b < 0 := by
  rw [Int32.lt_iff_toInt_lt, pk_sub_toInt (by omega) hb, show (0 : Int32).toInt = 0 from by decide]
  omega
theorem pk_ix (x : Int32) {n : Nat} (hn : n < 2 ^ 31) : x < 0 ∨ nI n ≤ x ∨ ∃ j : Nat, j < n ∧ x = nI j := by
  by_cases h : x < 0
  · exact Or.inl h
  · obtain ⟨j, hj, rfl⟩ := nI_of h
    by_cases h2 : j < n
    · exact Or.inr (Or.inr ⟨j, h2, rfl⟩)
    · exact Or.inr (Or.inl (nI_le (by omega) hj))
theorem pk_le {x y : Int32} {A B : Prop} (a b : Nat) (f : a ≤ b → A) (g : b < a → B) (hx : x = nI a := by rfl) (hy : y = nI b := by rfl) (ha : a < 2 ^ 31 := by omega) (hb : b < 2 ^ 31 := by omega) : (x ≤ y → A) ∧ (¬ x ≤ y → B) := by
  subst hx hy
  rw [nI_leI ha hb]
  exact ⟨f, fun z => g (by omega)⟩
theorem pk_lt {x y : Int32} {A B : Prop} (a b : Nat) (f : a < b → A) (g : b ≤ a → B) (hx : x = nI a := by rfl) (hy : y = nI b := by rfl) (ha : a < 2 ^ 31 := by omega) (hb : b < 2 ^ 31 := by omega) : (x < y → A) ∧ (¬ x < y → B) := by
  subst hx hy
  rw [nI_ltI ha hb]
  exact ⟨f, fun z => g (by omega)⟩
theorem pk_eq {x y : Int32} {A B : Prop} (a b : Nat) (f : a = b → A) (g : a ≠ b → B) (hx : x = nI a := by rfl) (hy : y = nI b := by rfl) (ha : a < 2 ^ 31 := by omega) (hb : b < 2 ^ 31 := by omega) : (x = y → A) ∧ (¬ x = y → B) := by
  subst hx hy
  rw [nI_eq ha hb]
  exact ⟨f, g⟩
theorem pk_in {x : Int32} (n N : Nat) (h : n < N) (hx : x = nI n := by rfl) (hN : N < 2 ^ 31 := by omega) : vp_in x N := by
  subst hx
  exact vp_in_nI h hN
theorem pk_cl {x : Int32} (n : Nat) (hx : x = nI n := by rfl) (h : n < 2 ^ 31 := by omega) : x.toNatClampNeg = n := by
  subst hx
  exact nI_clamp h
theorem pk_tn {n : Nat} (h : n < 2 ^ 32) : (nI n).toBitVec.toNat = n := Nat.mod_eq_of_lt h
theorem pk_and (x : Int32) {m : Int32} (k : Nat) (hm : m.toBitVec.toNat = 2 ^ k - 1) : x &&& m = nI (x.toBitVec.toNat % 2 ^ k) := by
  apply Int32.toBitVec_inj.mp
  apply BitVec.eq_of_toNat_eq
  rw [Int32.toBitVec_and, BitVec.toNat_and, hm, Nat.and_two_pow_sub_one_eq_mod]
  show _ = (BitVec.ofNat 32 _).toNat
  rw [BitVec.toNat_ofNat]
  exact (Nat.mod_eq_of_lt (Nat.lt_of_le_of_lt (Nat.mod_le _ _) x.toBitVec.isLt)).symm
theorem pk_andN {n : Nat} (h : n < 2 ^ 32) {m : Int32} (k : Nat) (hm : m.toBitVec.toNat = 2 ^ k - 1) : nI n &&& m = nI (n % 2 ^ k) := by
  rw [pk_and _ k hm, pk_tn h]
theorem pk_andE (x : Int32) {m : Int32} (k : Nat) (hm : m.toBitVec.toNat = 2 ^ k - 1) : ∃ j : Nat, j < 2 ^ k ∧ x &&& m = nI j := ⟨_, Nat.mod_lt _ (Nat.two_pow_pos k), pk_and x k hm⟩
theorem pk_andIn (x : Int32) {m : Int32} (k : Nat) (hm : m.toBitVec.toNat = 2 ^ k - 1) (hk : k ≤ 30) : vp_in (x &&& m) (2 ^ k) := by
  obtain ⟨j, hj, e⟩ := pk_andE x k hm
  rw [e]
  exact vp_in_nI hj (Nat.lt_of_le_of_lt (Nat.pow_le_pow_right (by decide) hk) (by decide))
theorem pk_shl (a s : Int32) (k : Nat) (hs : (s.toBitVec.smod 32).toNat = k) : (a <<< s).toBitVec.toNat = a.toBitVec.toNat * 2 ^ k % 2 ^ 32 := by
  show (a.toBitVec <<< (s.toBitVec.smod 32).toNat).toNat = _
  rw [hs, BitVec.toNat_shiftLeft, Nat.shiftLeft_eq]
theorem pk_shlN {n : Nat} (s : Int32) (k : Nat) (hs : (s.toBitVec.smod 32).toNat = k) (h : n * 2 ^ k < 2 ^ 32) : nI n <<< s = nI (n * 2 ^ k) := by
  apply Int32.toBitVec_inj.mp
  apply BitVec.eq_of_toNat_eq
  have hn : n < 2 ^ 32 := Nat.lt_of_le_of_lt (Nat.le_mul_of_pos_right n (Nat.two_pow_pos k)) h
  rw [pk_shl _ _ k hs, pk_tn hn, pk_tn h, Nat.mod_eq_of_lt h]
theorem pk_shr (a s : Int32) (k : Nat) (hs : (s.toBitVec.smod 32).toNat = k) : (a >>> s).toInt = a.toInt >>> k := by
  show (a.toBitVec.sshiftRight (s.toBitVec.smod 32).toNat).toInt = _
  rw [hs, BitVec.toInt_sshiftRight]
  rfl
theorem pk_shrN {n : Nat} (h : n < 2 ^ 31) (s : Int32) (k : Nat) (hs : (s.toBitVec.smod 32).toNat = k) : nI n >>> s = nI (n / 2 ^ k) := by
  apply Int32.toInt_inj.mp
  have h2 : n / 2 ^ k ≤ n := Nat.div_le_self _ _
  rw [pk_shr _ _ k hs, nI_toInt h, nI_toInt (by omega), Int.shiftRight_eq_div_pow]
  rfl
theorem pk_ushr (x s : Int32) (k : Nat) (hs : ((s.toUInt32 &&& Int32.toUInt32 31).toBitVec % 32).toNat = k) : (x.toUInt32 >>> (s.toUInt32 &&& Int32.toUInt32 31)).toInt32.toBitVec.toNat = x.toBitVec.toNat / 2 ^ k := by
  have e : (x.toUInt32 >>> (s.toUInt32 &&& Int32.toUInt32 31)).toInt32.toBitVec = x.toBitVec >>> k := by
    rw [← hs]
    exact UInt32.toBitVec_shiftRight _ _
  rw [e, BitVec.toNat_ushiftRight, Nat.shiftRight_eq_div_pow]
theorem pk_ushrN {n : Nat} (hn : n < 2 ^ 32) (s : Int32) (k : Nat) (hs : ((s.toUInt32 &&& Int32.toUInt32 31).toBitVec % 32).toNat = k) : ((nI n).toUInt32 >>> (s.toUInt32 &&& Int32.toUInt32 31)).toInt32 = nI (n / 2 ^ k) := by
  apply Int32.toBitVec_inj.mp
  apply BitVec.eq_of_toNat_eq
  rw [pk_ushr _ s k hs, pk_tn hn, pk_tn (Nat.lt_of_le_of_lt (Nat.div_le_self _ _) hn)]
theorem pk_nb (z : Int32) : narrow .byte (.int z.toInt8.toInt32) = .int z.toInt8.toInt32 := congrArg Value.int (by simp)
theorem pk_ns (z : Int32) : narrow .short (.int z.toInt16.toInt32) = .int z.toInt16.toInt32 := congrArg Value.int (by simp)
theorem pk_fb (r : Int32) : fits .byte (.int r.toInt8.toInt32) = true := by
  have ⟨a, b⟩ := lg_i2b_range r
  have h1 : (-128 : Int32).toInt = -128 := by decide
  have h2 : (127 : Int32).toInt = 127 := by decide
  simp only [fits, Bool.and_eq_true, decide_eq_true_eq, Int32.le_iff_toInt_le, h1, h2]
  omega
theorem pk_fs (r : Int32) : fits .short (.int r.toInt16.toInt32) = true := by
  have ⟨a, b⟩ := lg_i2s_range r
  have h1 : (-32768 : Int32).toInt = -32768 := by decide
  have h2 : (32767 : Int32).toInt = 32767 := by decide
  simp only [fits, Bool.and_eq_true, decide_eq_true_eq, Int32.le_iff_toInt_le, h1, h2]
  omega
theorem pk_charN {q : Nat} (hq : q < 65536) : narrow .char (.int (nI q)) = .int (nI q) ∧ fits .char (.int (nI q)) = true := by
  constructor
  · have e : (nI q).toUInt32.toUInt16.toUInt32.toInt32 = nI q := by
      apply Int32.toBitVec_inj.mp
      apply BitVec.eq_of_toNat_eq
      show (nI q).toUInt32.toUInt16.toUInt32.toNat = q % 2 ^ 32
      rw [UInt16.toNat_toUInt32, UInt32.toNat_toUInt16, show (nI q).toUInt32.toNat = q % 2 ^ 32 from rfl]
      omega
    exact congrArg Value.int e
  · have a : (0 : Int32) ≤ nI q := nI_pos' (by omega)
    have b : nI q ≤ 65535 := nI_le (b := 65535) (by omega) (by decide)
    show (decide ((0 : Int32) ≤ nI q) && decide (nI q ≤ 65535)) = true
    rw [decide_eq_true a, decide_eq_true b]
    rfl
theorem pk_char (x : Int32) : (x.toUInt32 % 65536).toInt32 = nI (x.toBitVec.toNat % 65536) := by
  apply Int32.toBitVec_inj.mp
  apply BitVec.eq_of_toNat_eq
  rw [pk_tn (by omega)]
  show (x.toUInt32 % 65536).toNat = _
  rw [UInt32.toNat_mod]
  rfl
theorem pk_nc (x : Int32) : narrow .char (.int (x.toUInt32 % 65536).toInt32) = .int (x.toUInt32 % 65536).toInt32 := by
  rw [pk_char]
  exact (pk_charN (Nat.mod_lt _ (by decide))).1
theorem pk_fc (x : Int32) : fits .char (.int (x.toUInt32 % 65536).toInt32) = true := by
  rw [pk_char]
  exact (pk_charN (Nat.mod_lt _ (by decide))).2
theorem pk_vb (z : Int32) : vp_nar .byte z.toInt8.toInt32 = z.toInt8.toInt32 := by rw [vp_nar_byte]; simp
theorem pk_vs (z : Int32) : vp_nar .short z.toInt16.toInt32 = z.toInt16.toInt32 := by rw [vp_nar_short]; simp
theorem pk_vc (z : Int32) : vp_nar .char (z.toUInt32 % 65536).toInt32 = (z.toUInt32 % 65536).toInt32 := Value.int.inj (pk_nc z)
theorem pk_lT {n : Nat} (h : n < 2 ^ 63) : (lN n).toInt = (n : Int) := lg_ofNat_toInt h
theorem pk_lLT {a b : Nat} (ha : a < 2 ^ 63) (hb : b < 2 ^ 63) : lN a < lN b ↔ a < b := by
  rw [Int64.lt_iff_toInt_lt, pk_lT ha, pk_lT hb]; omega
theorem pk_lLE {a b : Nat} (ha : a < 2 ^ 63) (hb : b < 2 ^ 63) : lN a ≤ lN b ↔ a ≤ b := by
  rw [Int64.le_iff_toInt_le, pk_lT ha, pk_lT hb]; omega
theorem pk_lEQ {a b : Nat} (ha : a < 2 ^ 63) (hb : b < 2 ^ 63) : lN a = lN b ↔ a = b := by
  rw [← Int64.toInt_inj, pk_lT ha, pk_lT hb]; omega
theorem pk_lOf {x : Int64} (h : ¬ x < 0) : ∃ k : Nat, k < 2 ^ 63 ∧ x = lN k := by
  rw [Int64.lt_iff_toInt_lt] at h
  have h0 : (0 : Int64).toInt = 0 := by decide
  have hx := Int64.toInt_lt x
  refine ⟨x.toInt.toNat, by omega, Int64.toInt_inj.mp ?_⟩
  rw [pk_lT (by omega)]
  omega
theorem pk_lDiv {a b : Nat} (ha : a < 2 ^ 63) (h0 : 0 < b) (hb : b < 2 ^ 63) : lN a / lN b = lN (a / b) := by
  apply Int64.toInt_inj.mp
  rw [lg_ldiv_nonneg (by rw [pk_lT ha]; omega) (by rw [pk_lT hb]; omega), pk_lT ha, pk_lT hb, pk_lT (Nat.lt_of_le_of_lt (Nat.div_le_self a b) ha)]
  rfl
theorem pk_lRem {a b : Nat} (ha : a < 2 ^ 63) (h0 : 0 < b) (hb : b < 2 ^ 63) : lN a - lN a / lN b * lN b = lN (a % b) := by
  rw [pk_lDiv ha h0 hb, lN_mul, lN_sub (Nat.div_mul_le_self a b)]
  exact congrArg lN (by have := Nat.div_add_mod' a b; omega)
theorem pk_loop {σ : Type} (W : Nat → Nat → σ → Prop) (I : Nat → σ → Prop) (e i0 : Nat) (s : σ) (hi : i0 ≤ e) (h0 : I i0 s) (hx : ∀ n s, I e s → W (n + 1) e s)
    (hs : ∀ n i s, i < e → I i s → (∀ s', I (i + 1) s' → W n (i + 1) s') → W (n + 1) i s) : ∃ n, W n i0 s :=
  ⟨e + 1, loop_i W I e hx hs (e + 1) i0 s hi (by omega) h0⟩
theorem pk_loopD {σ : Type} (W : Nat → Nat → σ → Prop) (I : Nat → σ → Prop) (hx : ∀ n s, I 0 s → W (n + 1) 0 s)
    (hs : ∀ n i s, I (i + 1) s → (∀ s', I i s' → W n i s') → W (n + 1) (i + 1) s) : ∀ (e : Nat) (s : σ), I e s → W (e + 1) e s := by
  intro e
  induction e with
  | zero => exact fun s h => hx 0 s h
  | succ e ih => exact fun s h => hs (e + 1) e s h (fun s' h' => ih s' h')
theorem lp1 {A1 : Type} (W : Nat → A1 → Prop) (I : A1 → Prop) (μ : A1 → Nat) (hs : ∀ (n : Nat) (a1 : A1), I a1 → (∀ (b1 : A1), I b1 → μ b1 < μ a1 → W n b1) → W (n + 1) a1) (a1 : A1) (h : I a1) : ∃ n, W n a1 :=
  loop_m (σ := A1) (fun n s => W n s) (fun s => I s) (fun s => μ s) (fun n s hI hk => hs n s hI (fun b1 h9 hm => hk b1 h9 hm)) a1 h
theorem lp2 {A1 A2 : Type} (W : Nat → A1 → A2 → Prop) (I : A1 → A2 → Prop) (μ : A1 → A2 → Nat) (hs : ∀ (n : Nat) (a1 : A1) (a2 : A2), I a1 a2 → (∀ (b1 : A1) (b2 : A2), I b1 b2 → μ b1 b2 < μ a1 a2 → W n b1 b2) → W (n + 1) a1 a2) (a1 : A1) (a2 : A2) (h : I a1 a2) : ∃ n, W n a1 a2 :=
  loop_m (σ := A1 × A2) (fun n s => W n s.1 s.2) (fun s => I s.1 s.2) (fun s => μ s.1 s.2) (fun n s hI hk => hs n s.1 s.2 hI (fun b1 b2 h9 hm => hk (b1, b2) h9 hm)) (a1, a2) h
theorem lp3 {A1 A2 A3 : Type} (W : Nat → A1 → A2 → A3 → Prop) (I : A1 → A2 → A3 → Prop) (μ : A1 → A2 → A3 → Nat) (hs : ∀ (n : Nat) (a1 : A1) (a2 : A2) (a3 : A3), I a1 a2 a3 → (∀ (b1 : A1) (b2 : A2) (b3 : A3), I b1 b2 b3 → μ b1 b2 b3 < μ a1 a2 a3 → W n b1 b2 b3) → W (n + 1) a1 a2 a3) (a1 : A1) (a2 : A2) (a3 : A3) (h : I a1 a2 a3) : ∃ n, W n a1 a2 a3 :=
  loop_m (σ := A1 × A2 × A3) (fun n s => W n s.1 s.2.1 s.2.2) (fun s => I s.1 s.2.1 s.2.2) (fun s => μ s.1 s.2.1 s.2.2) (fun n s hI hk => hs n s.1 s.2.1 s.2.2 hI (fun b1 b2 b3 h9 hm => hk (b1, b2, b3) h9 hm)) (a1, a2, a3) h
theorem lp4 {A1 A2 A3 A4 : Type} (W : Nat → A1 → A2 → A3 → A4 → Prop) (I : A1 → A2 → A3 → A4 → Prop) (μ : A1 → A2 → A3 → A4 → Nat) (hs : ∀ (n : Nat) (a1 : A1) (a2 : A2) (a3 : A3) (a4 : A4), I a1 a2 a3 a4 → (∀ (b1 : A1) (b2 : A2) (b3 : A3) (b4 : A4), I b1 b2 b3 b4 → μ b1 b2 b3 b4 < μ a1 a2 a3 a4 → W n b1 b2 b3 b4) → W (n + 1) a1 a2 a3 a4) (a1 : A1) (a2 : A2) (a3 : A3) (a4 : A4) (h : I a1 a2 a3 a4) : ∃ n, W n a1 a2 a3 a4 :=
  loop_m (σ := A1 × A2 × A3 × A4) (fun n s => W n s.1 s.2.1 s.2.2.1 s.2.2.2) (fun s => I s.1 s.2.1 s.2.2.1 s.2.2.2) (fun s => μ s.1 s.2.1 s.2.2.1 s.2.2.2) (fun n s hI hk => hs n s.1 s.2.1 s.2.2.1 s.2.2.2 hI (fun b1 b2 b3 b4 h9 hm => hk (b1, b2, b3, b4) h9 hm)) (a1, a2, a3, a4) h
theorem lp5 {A1 A2 A3 A4 A5 : Type} (W : Nat → A1 → A2 → A3 → A4 → A5 → Prop) (I : A1 → A2 → A3 → A4 → A5 → Prop) (μ : A1 → A2 → A3 → A4 → A5 → Nat) (hs : ∀ (n : Nat) (a1 : A1) (a2 : A2) (a3 : A3) (a4 : A4) (a5 : A5), I a1 a2 a3 a4 a5 → (∀ (b1 : A1) (b2 : A2) (b3 : A3) (b4 : A4) (b5 : A5), I b1 b2 b3 b4 b5 → μ b1 b2 b3 b4 b5 < μ a1 a2 a3 a4 a5 → W n b1 b2 b3 b4 b5) → W (n + 1) a1 a2 a3 a4 a5) (a1 : A1) (a2 : A2) (a3 : A3) (a4 : A4) (a5 : A5) (h : I a1 a2 a3 a4 a5) : ∃ n, W n a1 a2 a3 a4 a5 :=
  loop_m (σ := A1 × A2 × A3 × A4 × A5) (fun n s => W n s.1 s.2.1 s.2.2.1 s.2.2.2.1 s.2.2.2.2) (fun s => I s.1 s.2.1 s.2.2.1 s.2.2.2.1 s.2.2.2.2) (fun s => μ s.1 s.2.1 s.2.2.1 s.2.2.2.1 s.2.2.2.2) (fun n s hI hk => hs n s.1 s.2.1 s.2.2.1 s.2.2.2.1 s.2.2.2.2 hI (fun b1 b2 b3 b4 b5 h9 hm => hk (b1, b2, b3, b4, b5) h9 hm)) (a1, a2, a3, a4, a5) h
theorem lp6 {A1 A2 A3 A4 A5 A6 : Type} (W : Nat → A1 → A2 → A3 → A4 → A5 → A6 → Prop) (I : A1 → A2 → A3 → A4 → A5 → A6 → Prop) (μ : A1 → A2 → A3 → A4 → A5 → A6 → Nat) (hs : ∀ (n : Nat) (a1 : A1) (a2 : A2) (a3 : A3) (a4 : A4) (a5 : A5) (a6 : A6), I a1 a2 a3 a4 a5 a6 → (∀ (b1 : A1) (b2 : A2) (b3 : A3) (b4 : A4) (b5 : A5) (b6 : A6), I b1 b2 b3 b4 b5 b6 → μ b1 b2 b3 b4 b5 b6 < μ a1 a2 a3 a4 a5 a6 → W n b1 b2 b3 b4 b5 b6) → W (n + 1) a1 a2 a3 a4 a5 a6) (a1 : A1) (a2 : A2) (a3 : A3) (a4 : A4) (a5 : A5) (a6 : A6) (h : I a1 a2 a3 a4 a5 a6) : ∃ n, W n a1 a2 a3 a4 a5 a6 :=
  loop_m (σ := A1 × A2 × A3 × A4 × A5 × A6) (fun n s => W n s.1 s.2.1 s.2.2.1 s.2.2.2.1 s.2.2.2.2.1 s.2.2.2.2.2) (fun s => I s.1 s.2.1 s.2.2.1 s.2.2.2.1 s.2.2.2.2.1 s.2.2.2.2.2) (fun s => μ s.1 s.2.1 s.2.2.1 s.2.2.2.1 s.2.2.2.2.1 s.2.2.2.2.2) (fun n s hI hk => hs n s.1 s.2.1 s.2.2.1 s.2.2.2.1 s.2.2.2.2.1 s.2.2.2.2.2 hI (fun b1 b2 b3 b4 b5 b6 h9 hm => hk (b1, b2, b3, b4, b5, b6) h9 hm)) (a1, a2, a3, a4, a5, a6) h
theorem lp7 {A1 A2 A3 A4 A5 A6 A7 : Type} (W : Nat → A1 → A2 → A3 → A4 → A5 → A6 → A7 → Prop) (I : A1 → A2 → A3 → A4 → A5 → A6 → A7 → Prop) (μ : A1 → A2 → A3 → A4 → A5 → A6 → A7 → Nat) (hs : ∀ (n : Nat) (a1 : A1) (a2 : A2) (a3 : A3) (a4 : A4) (a5 : A5) (a6 : A6) (a7 : A7), I a1 a2 a3 a4 a5 a6 a7 → (∀ (b1 : A1) (b2 : A2) (b3 : A3) (b4 : A4) (b5 : A5) (b6 : A6) (b7 : A7), I b1 b2 b3 b4 b5 b6 b7 → μ b1 b2 b3 b4 b5 b6 b7 < μ a1 a2 a3 a4 a5 a6 a7 → W n b1 b2 b3 b4 b5 b6 b7) → W (n + 1) a1 a2 a3 a4 a5 a6 a7) (a1 : A1) (a2 : A2) (a3 : A3) (a4 : A4) (a5 : A5) (a6 : A6) (a7 : A7) (h : I a1 a2 a3 a4 a5 a6 a7) : ∃ n, W n a1 a2 a3 a4 a5 a6 a7 :=
  loop_m (σ := A1 × A2 × A3 × A4 × A5 × A6 × A7) (fun n s => W n s.1 s.2.1 s.2.2.1 s.2.2.2.1 s.2.2.2.2.1 s.2.2.2.2.2.1 s.2.2.2.2.2.2) (fun s => I s.1 s.2.1 s.2.2.1 s.2.2.2.1 s.2.2.2.2.1 s.2.2.2.2.2.1 s.2.2.2.2.2.2) (fun s => μ s.1 s.2.1 s.2.2.1 s.2.2.2.1 s.2.2.2.2.1 s.2.2.2.2.2.1 s.2.2.2.2.2.2) (fun n s hI hk => hs n s.1 s.2.1 s.2.2.1 s.2.2.2.1 s.2.2.2.2.1 s.2.2.2.2.2.1 s.2.2.2.2.2.2 hI (fun b1 b2 b3 b4 b5 b6 b7 h9 hm => hk (b1, b2, b3, b4, b5, b6, b7) h9 hm)) (a1, a2, a3, a4, a5, a6, a7) h
theorem lp8 {A1 A2 A3 A4 A5 A6 A7 A8 : Type} (W : Nat → A1 → A2 → A3 → A4 → A5 → A6 → A7 → A8 → Prop) (I : A1 → A2 → A3 → A4 → A5 → A6 → A7 → A8 → Prop) (μ : A1 → A2 → A3 → A4 → A5 → A6 → A7 → A8 → Nat) (hs : ∀ (n : Nat) (a1 : A1) (a2 : A2) (a3 : A3) (a4 : A4) (a5 : A5) (a6 : A6) (a7 : A7) (a8 : A8), I a1 a2 a3 a4 a5 a6 a7 a8 → (∀ (b1 : A1) (b2 : A2) (b3 : A3) (b4 : A4) (b5 : A5) (b6 : A6) (b7 : A7) (b8 : A8), I b1 b2 b3 b4 b5 b6 b7 b8 → μ b1 b2 b3 b4 b5 b6 b7 b8 < μ a1 a2 a3 a4 a5 a6 a7 a8 → W n b1 b2 b3 b4 b5 b6 b7 b8) → W (n + 1) a1 a2 a3 a4 a5 a6 a7 a8) (a1 : A1) (a2 : A2) (a3 : A3) (a4 : A4) (a5 : A5) (a6 : A6) (a7 : A7) (a8 : A8) (h : I a1 a2 a3 a4 a5 a6 a7 a8) : ∃ n, W n a1 a2 a3 a4 a5 a6 a7 a8 :=
  loop_m (σ := A1 × A2 × A3 × A4 × A5 × A6 × A7 × A8) (fun n s => W n s.1 s.2.1 s.2.2.1 s.2.2.2.1 s.2.2.2.2.1 s.2.2.2.2.2.1 s.2.2.2.2.2.2.1 s.2.2.2.2.2.2.2) (fun s => I s.1 s.2.1 s.2.2.1 s.2.2.2.1 s.2.2.2.2.1 s.2.2.2.2.2.1 s.2.2.2.2.2.2.1 s.2.2.2.2.2.2.2) (fun s => μ s.1 s.2.1 s.2.2.1 s.2.2.2.1 s.2.2.2.2.1 s.2.2.2.2.2.1 s.2.2.2.2.2.2.1 s.2.2.2.2.2.2.2) (fun n s hI hk => hs n s.1 s.2.1 s.2.2.1 s.2.2.2.1 s.2.2.2.2.1 s.2.2.2.2.2.1 s.2.2.2.2.2.2.1 s.2.2.2.2.2.2.2 hI (fun b1 b2 b3 b4 b5 b6 b7 b8 h9 hm => hk (b1, b2, b3, b4, b5, b6, b7, b8) h9 hm)) (a1, a2, a3, a4, a5, a6, a7, a8) h
theorem lp9 {A1 A2 A3 A4 A5 A6 A7 A8 A9 : Type} (W : Nat → A1 → A2 → A3 → A4 → A5 → A6 → A7 → A8 → A9 → Prop) (I : A1 → A2 → A3 → A4 → A5 → A6 → A7 → A8 → A9 → Prop) (μ : A1 → A2 → A3 → A4 → A5 → A6 → A7 → A8 → A9 → Nat) (hs : ∀ (n : Nat) (a1 : A1) (a2 : A2) (a3 : A3) (a4 : A4) (a5 : A5) (a6 : A6) (a7 : A7) (a8 : A8) (a9 : A9), I a1 a2 a3 a4 a5 a6 a7 a8 a9 → (∀ (b1 : A1) (b2 : A2) (b3 : A3) (b4 : A4) (b5 : A5) (b6 : A6) (b7 : A7) (b8 : A8) (b9 : A9), I b1 b2 b3 b4 b5 b6 b7 b8 b9 → μ b1 b2 b3 b4 b5 b6 b7 b8 b9 < μ a1 a2 a3 a4 a5 a6 a7 a8 a9 → W n b1 b2 b3 b4 b5 b6 b7 b8 b9) → W (n + 1) a1 a2 a3 a4 a5 a6 a7 a8 a9) (a1 : A1) (a2 : A2) (a3 : A3) (a4 : A4) (a5 : A5) (a6 : A6) (a7 : A7) (a8 : A8) (a9 : A9) (h : I a1 a2 a3 a4 a5 a6 a7 a8 a9) : ∃ n, W n a1 a2 a3 a4 a5 a6 a7 a8 a9 :=
  loop_m (σ := A1 × A2 × A3 × A4 × A5 × A6 × A7 × A8 × A9) (fun n s => W n s.1 s.2.1 s.2.2.1 s.2.2.2.1 s.2.2.2.2.1 s.2.2.2.2.2.1 s.2.2.2.2.2.2.1 s.2.2.2.2.2.2.2.1 s.2.2.2.2.2.2.2.2) (fun s => I s.1 s.2.1 s.2.2.1 s.2.2.2.1 s.2.2.2.2.1 s.2.2.2.2.2.1 s.2.2.2.2.2.2.1 s.2.2.2.2.2.2.2.1 s.2.2.2.2.2.2.2.2) (fun s => μ s.1 s.2.1 s.2.2.1 s.2.2.2.1 s.2.2.2.2.1 s.2.2.2.2.2.1 s.2.2.2.2.2.2.1 s.2.2.2.2.2.2.2.1 s.2.2.2.2.2.2.2.2) (fun n s hI hk => hs n s.1 s.2.1 s.2.2.1 s.2.2.2.1 s.2.2.2.2.1 s.2.2.2.2.2.1 s.2.2.2.2.2.2.1 s.2.2.2.2.2.2.2.1 s.2.2.2.2.2.2.2.2 hI (fun b1 b2 b3 b4 b5 b6 b7 b8 b9 h9 hm => hk (b1, b2, b3, b4, b5, b6, b7, b8, b9) h9 hm)) (a1, a2, a3, a4, a5, a6, a7, a8, a9) h
theorem lp10 {A1 A2 A3 A4 A5 A6 A7 A8 A9 A10 : Type} (W : Nat → A1 → A2 → A3 → A4 → A5 → A6 → A7 → A8 → A9 → A10 → Prop) (I : A1 → A2 → A3 → A4 → A5 → A6 → A7 → A8 → A9 → A10 → Prop) (μ : A1 → A2 → A3 → A4 → A5 → A6 → A7 → A8 → A9 → A10 → Nat) (hs : ∀ (n : Nat) (a1 : A1) (a2 : A2) (a3 : A3) (a4 : A4) (a5 : A5) (a6 : A6) (a7 : A7) (a8 : A8) (a9 : A9) (a10 : A10), I a1 a2 a3 a4 a5 a6 a7 a8 a9 a10 → (∀ (b1 : A1) (b2 : A2) (b3 : A3) (b4 : A4) (b5 : A5) (b6 : A6) (b7 : A7) (b8 : A8) (b9 : A9) (b10 : A10), I b1 b2 b3 b4 b5 b6 b7 b8 b9 b10 → μ b1 b2 b3 b4 b5 b6 b7 b8 b9 b10 < μ a1 a2 a3 a4 a5 a6 a7 a8 a9 a10 → W n b1 b2 b3 b4 b5 b6 b7 b8 b9 b10) → W (n + 1) a1 a2 a3 a4 a5 a6 a7 a8 a9 a10) (a1 : A1) (a2 : A2) (a3 : A3) (a4 : A4) (a5 : A5) (a6 : A6) (a7 : A7) (a8 : A8) (a9 : A9) (a10 : A10) (h : I a1 a2 a3 a4 a5 a6 a7 a8 a9 a10) : ∃ n, W n a1 a2 a3 a4 a5 a6 a7 a8 a9 a10 :=
  loop_m (σ := A1 × A2 × A3 × A4 × A5 × A6 × A7 × A8 × A9 × A10) (fun n s => W n s.1 s.2.1 s.2.2.1 s.2.2.2.1 s.2.2.2.2.1 s.2.2.2.2.2.1 s.2.2.2.2.2.2.1 s.2.2.2.2.2.2.2.1 s.2.2.2.2.2.2.2.2.1 s.2.2.2.2.2.2.2.2.2) (fun s => I s.1 s.2.1 s.2.2.1 s.2.2.2.1 s.2.2.2.2.1 s.2.2.2.2.2.1 s.2.2.2.2.2.2.1 s.2.2.2.2.2.2.2.1 s.2.2.2.2.2.2.2.2.1 s.2.2.2.2.2.2.2.2.2) (fun s => μ s.1 s.2.1 s.2.2.1 s.2.2.2.1 s.2.2.2.2.1 s.2.2.2.2.2.1 s.2.2.2.2.2.2.1 s.2.2.2.2.2.2.2.1 s.2.2.2.2.2.2.2.2.1 s.2.2.2.2.2.2.2.2.2) (fun n s hI hk => hs n s.1 s.2.1 s.2.2.1 s.2.2.2.1 s.2.2.2.2.1 s.2.2.2.2.2.1 s.2.2.2.2.2.2.1 s.2.2.2.2.2.2.2.1 s.2.2.2.2.2.2.2.2.1 s.2.2.2.2.2.2.2.2.2 hI (fun b1 b2 b3 b4 b5 b6 b7 b8 b9 b10 h9 hm => hk (b1, b2, b3, b4, b5, b6, b7, b8, b9, b10) h9 hm)) (a1, a2, a3, a4, a5, a6, a7, a8, a9, a10) h
theorem lp11 {A1 A2 A3 A4 A5 A6 A7 A8 A9 A10 A11 : Type} (W : Nat → A1 → A2 → A3 → A4 → A5 → A6 → A7 → A8 → A9 → A10 → A11 → Prop) (I : A1 → A2 → A3 → A4 → A5 → A6 → A7 → A8 → A9 → A10 → A11 → Prop) (μ : A1 → A2 → A3 → A4 → A5 → A6 → A7 → A8 → A9 → A10 → A11 → Nat) (hs : ∀ (n : Nat) (a1 : A1) (a2 : A2) (a3 : A3) (a4 : A4) (a5 : A5) (a6 : A6) (a7 : A7) (a8 : A8) (a9 : A9) (a10 : A10) (a11 : A11), I a1 a2 a3 a4 a5 a6 a7 a8 a9 a10 a11 → (∀ (b1 : A1) (b2 : A2) (b3 : A3) (b4 : A4) (b5 : A5) (b6 : A6) (b7 : A7) (b8 : A8) (b9 : A9) (b10 : A10) (b11 : A11), I b1 b2 b3 b4 b5 b6 b7 b8 b9 b10 b11 → μ b1 b2 b3 b4 b5 b6 b7 b8 b9 b10 b11 < μ a1 a2 a3 a4 a5 a6 a7 a8 a9 a10 a11 → W n b1 b2 b3 b4 b5 b6 b7 b8 b9 b10 b11) → W (n + 1) a1 a2 a3 a4 a5 a6 a7 a8 a9 a10 a11) (a1 : A1) (a2 : A2) (a3 : A3) (a4 : A4) (a5 : A5) (a6 : A6) (a7 : A7) (a8 : A8) (a9 : A9) (a10 : A10) (a11 : A11) (h : I a1 a2 a3 a4 a5 a6 a7 a8 a9 a10 a11) : ∃ n, W n a1 a2 a3 a4 a5 a6 a7 a8 a9 a10 a11 :=
  loop_m (σ := A1 × A2 × A3 × A4 × A5 × A6 × A7 × A8 × A9 × A10 × A11) (fun n s => W n s.1 s.2.1 s.2.2.1 s.2.2.2.1 s.2.2.2.2.1 s.2.2.2.2.2.1 s.2.2.2.2.2.2.1 s.2.2.2.2.2.2.2.1 s.2.2.2.2.2.2.2.2.1 s.2.2.2.2.2.2.2.2.2.1 s.2.2.2.2.2.2.2.2.2.2) (fun s => I s.1 s.2.1 s.2.2.1 s.2.2.2.1 s.2.2.2.2.1 s.2.2.2.2.2.1 s.2.2.2.2.2.2.1 s.2.2.2.2.2.2.2.1 s.2.2.2.2.2.2.2.2.1 s.2.2.2.2.2.2.2.2.2.1 s.2.2.2.2.2.2.2.2.2.2) (fun s => μ s.1 s.2.1 s.2.2.1 s.2.2.2.1 s.2.2.2.2.1 s.2.2.2.2.2.1 s.2.2.2.2.2.2.1 s.2.2.2.2.2.2.2.1 s.2.2.2.2.2.2.2.2.1 s.2.2.2.2.2.2.2.2.2.1 s.2.2.2.2.2.2.2.2.2.2) (fun n s hI hk => hs n s.1 s.2.1 s.2.2.1 s.2.2.2.1 s.2.2.2.2.1 s.2.2.2.2.2.1 s.2.2.2.2.2.2.1 s.2.2.2.2.2.2.2.1 s.2.2.2.2.2.2.2.2.1 s.2.2.2.2.2.2.2.2.2.1 s.2.2.2.2.2.2.2.2.2.2 hI (fun b1 b2 b3 b4 b5 b6 b7 b8 b9 b10 b11 h9 hm => hk (b1, b2, b3, b4, b5, b6, b7, b8, b9, b10, b11) h9 hm)) (a1, a2, a3, a4, a5, a6, a7, a8, a9, a10, a11) h
theorem lp12 {A1 A2 A3 A4 A5 A6 A7 A8 A9 A10 A11 A12 : Type} (W : Nat → A1 → A2 → A3 → A4 → A5 → A6 → A7 → A8 → A9 → A10 → A11 → A12 → Prop) (I : A1 → A2 → A3 → A4 → A5 → A6 → A7 → A8 → A9 → A10 → A11 → A12 → Prop) (μ : A1 → A2 → A3 → A4 → A5 → A6 → A7 → A8 → A9 → A10 → A11 → A12 → Nat) (hs : ∀ (n : Nat) (a1 : A1) (a2 : A2) (a3 : A3) (a4 : A4) (a5 : A5) (a6 : A6) (a7 : A7) (a8 : A8) (a9 : A9) (a10 : A10) (a11 : A11) (a12 : A12), I a1 a2 a3 a4 a5 a6 a7 a8 a9 a10 a11 a12 → (∀ (b1 : A1) (b2 : A2) (b3 : A3) (b4 : A4) (b5 : A5) (b6 : A6) (b7 : A7) (b8 : A8) (b9 : A9) (b10 : A10) (b11 : A11) (b12 : A12), I b1 b2 b3 b4 b5 b6 b7 b8 b9 b10 b11 b12 → μ b1 b2 b3 b4 b5 b6 b7 b8 b9 b10 b11 b12 < μ a1 a2 a3 a4 a5 a6 a7 a8 a9 a10 a11 a12 → W n b1 b2 b3 b4 b5 b6 b7 b8 b9 b10 b11 b12) → W (n + 1) a1 a2 a3 a4 a5 a6 a7 a8 a9 a10 a11 a12) (a1 : A1) (a2 : A2) (a3 : A3) (a4 : A4) (a5 : A5) (a6 : A6) (a7 : A7) (a8 : A8) (a9 : A9) (a10 : A10) (a11 : A11) (a12 : A12) (h : I a1 a2 a3 a4 a5 a6 a7 a8 a9 a10 a11 a12) : ∃ n, W n a1 a2 a3 a4 a5 a6 a7 a8 a9 a10 a11 a12 :=
  loop_m (σ := A1 × A2 × A3 × A4 × A5 × A6 × A7 × A8 × A9 × A10 × A11 × A12) (fun n s => W n s.1 s.2.1 s.2.2.1 s.2.2.2.1 s.2.2.2.2.1 s.2.2.2.2.2.1 s.2.2.2.2.2.2.1 s.2.2.2.2.2.2.2.1 s.2.2.2.2.2.2.2.2.1 s.2.2.2.2.2.2.2.2.2.1 s.2.2.2.2.2.2.2.2.2.2.1 s.2.2.2.2.2.2.2.2.2.2.2) (fun s => I s.1 s.2.1 s.2.2.1 s.2.2.2.1 s.2.2.2.2.1 s.2.2.2.2.2.1 s.2.2.2.2.2.2.1 s.2.2.2.2.2.2.2.1 s.2.2.2.2.2.2.2.2.1 s.2.2.2.2.2.2.2.2.2.1 s.2.2.2.2.2.2.2.2.2.2.1 s.2.2.2.2.2.2.2.2.2.2.2) (fun s => μ s.1 s.2.1 s.2.2.1 s.2.2.2.1 s.2.2.2.2.1 s.2.2.2.2.2.1 s.2.2.2.2.2.2.1 s.2.2.2.2.2.2.2.1 s.2.2.2.2.2.2.2.2.1 s.2.2.2.2.2.2.2.2.2.1 s.2.2.2.2.2.2.2.2.2.2.1 s.2.2.2.2.2.2.2.2.2.2.2) (fun n s hI hk => hs n s.1 s.2.1 s.2.2.1 s.2.2.2.1 s.2.2.2.2.1 s.2.2.2.2.2.1 s.2.2.2.2.2.2.1 s.2.2.2.2.2.2.2.1 s.2.2.2.2.2.2.2.2.1 s.2.2.2.2.2.2.2.2.2.1 s.2.2.2.2.2.2.2.2.2.2.1 s.2.2.2.2.2.2.2.2.2.2.2 hI (fun b1 b2 b3 b4 b5 b6 b7 b8 b9 b10 b11 b12 h9 hm => hk (b1, b2, b3, b4, b5, b6, b7, b8, b9, b10, b11, b12) h9 hm)) (a1, a2, a3, a4, a5, a6, a7, a8, a9, a10, a11, a12) h
theorem lp13 {A1 A2 A3 A4 A5 A6 A7 A8 A9 A10 A11 A12 A13 : Type} (W : Nat → A1 → A2 → A3 → A4 → A5 → A6 → A7 → A8 → A9 → A10 → A11 → A12 → A13 → Prop) (I : A1 → A2 → A3 → A4 → A5 → A6 → A7 → A8 → A9 → A10 → A11 → A12 → A13 → Prop) (μ : A1 → A2 → A3 → A4 → A5 → A6 → A7 → A8 → A9 → A10 → A11 → A12 → A13 → Nat) (hs : ∀ (n : Nat) (a1 : A1) (a2 : A2) (a3 : A3) (a4 : A4) (a5 : A5) (a6 : A6) (a7 : A7) (a8 : A8) (a9 : A9) (a10 : A10) (a11 : A11) (a12 : A12) (a13 : A13), I a1 a2 a3 a4 a5 a6 a7 a8 a9 a10 a11 a12 a13 → (∀ (b1 : A1) (b2 : A2) (b3 : A3) (b4 : A4) (b5 : A5) (b6 : A6) (b7 : A7) (b8 : A8) (b9 : A9) (b10 : A10) (b11 : A11) (b12 : A12) (b13 : A13), I b1 b2 b3 b4 b5 b6 b7 b8 b9 b10 b11 b12 b13 → μ b1 b2 b3 b4 b5 b6 b7 b8 b9 b10 b11 b12 b13 < μ a1 a2 a3 a4 a5 a6 a7 a8 a9 a10 a11 a12 a13 → W n b1 b2 b3 b4 b5 b6 b7 b8 b9 b10 b11 b12 b13) → W (n + 1) a1 a2 a3 a4 a5 a6 a7 a8 a9 a10 a11 a12 a13) (a1 : A1) (a2 : A2) (a3 : A3) (a4 : A4) (a5 : A5) (a6 : A6) (a7 : A7) (a8 : A8) (a9 : A9) (a10 : A10) (a11 : A11) (a12 : A12) (a13 : A13) (h : I a1 a2 a3 a4 a5 a6 a7 a8 a9 a10 a11 a12 a13) : ∃ n, W n a1 a2 a3 a4 a5 a6 a7 a8 a9 a10 a11 a12 a13 :=
  loop_m (σ := A1 × A2 × A3 × A4 × A5 × A6 × A7 × A8 × A9 × A10 × A11 × A12 × A13) (fun n s => W n s.1 s.2.1 s.2.2.1 s.2.2.2.1 s.2.2.2.2.1 s.2.2.2.2.2.1 s.2.2.2.2.2.2.1 s.2.2.2.2.2.2.2.1 s.2.2.2.2.2.2.2.2.1 s.2.2.2.2.2.2.2.2.2.1 s.2.2.2.2.2.2.2.2.2.2.1 s.2.2.2.2.2.2.2.2.2.2.2.1 s.2.2.2.2.2.2.2.2.2.2.2.2) (fun s => I s.1 s.2.1 s.2.2.1 s.2.2.2.1 s.2.2.2.2.1 s.2.2.2.2.2.1 s.2.2.2.2.2.2.1 s.2.2.2.2.2.2.2.1 s.2.2.2.2.2.2.2.2.1 s.2.2.2.2.2.2.2.2.2.1 s.2.2.2.2.2.2.2.2.2.2.1 s.2.2.2.2.2.2.2.2.2.2.2.1 s.2.2.2.2.2.2.2.2.2.2.2.2) (fun s => μ s.1 s.2.1 s.2.2.1 s.2.2.2.1 s.2.2.2.2.1 s.2.2.2.2.2.1 s.2.2.2.2.2.2.1 s.2.2.2.2.2.2.2.1 s.2.2.2.2.2.2.2.2.1 s.2.2.2.2.2.2.2.2.2.1 s.2.2.2.2.2.2.2.2.2.2.1 s.2.2.2.2.2.2.2.2.2.2.2.1 s.2.2.2.2.2.2.2.2.2.2.2.2) (fun n s hI hk => hs n s.1 s.2.1 s.2.2.1 s.2.2.2.1 s.2.2.2.2.1 s.2.2.2.2.2.1 s.2.2.2.2.2.2.1 s.2.2.2.2.2.2.2.1 s.2.2.2.2.2.2.2.2.1 s.2.2.2.2.2.2.2.2.2.1 s.2.2.2.2.2.2.2.2.2.2.1 s.2.2.2.2.2.2.2.2.2.2.2.1 s.2.2.2.2.2.2.2.2.2.2.2.2 hI (fun b1 b2 b3 b4 b5 b6 b7 b8 b9 b10 b11 b12 b13 h9 hm => hk (b1, b2, b3, b4, b5, b6, b7, b8, b9, b10, b11, b12, b13) h9 hm)) (a1, a2, a3, a4, a5, a6, a7, a8, a9, a10, a11, a12, a13) h
theorem lp14 {A1 A2 A3 A4 A5 A6 A7 A8 A9 A10 A11 A12 A13 A14 : Type} (W : Nat → A1 → A2 → A3 → A4 → A5 → A6 → A7 → A8 → A9 → A10 → A11 → A12 → A13 → A14 → Prop) (I : A1 → A2 → A3 → A4 → A5 → A6 → A7 → A8 → A9 → A10 → A11 → A12 → A13 → A14 → Prop) (μ : A1 → A2 → A3 → A4 → A5 → A6 → A7 → A8 → A9 → A10 → A11 → A12 → A13 → A14 → Nat) (hs : ∀ (n : Nat) (a1 : A1) (a2 : A2) (a3 : A3) (a4 : A4) (a5 : A5) (a6 : A6) (a7 : A7) (a8 : A8) (a9 : A9) (a10 : A10) (a11 : A11) (a12 : A12) (a13 : A13) (a14 : A14), I a1 a2 a3 a4 a5 a6 a7 a8 a9 a10 a11 a12 a13 a14 → (∀ (b1 : A1) (b2 : A2) (b3 : A3) (b4 : A4) (b5 : A5) (b6 : A6) (b7 : A7) (b8 : A8) (b9 : A9) (b10 : A10) (b11 : A11) (b12 : A12) (b13 : A13) (b14 : A14), I b1 b2 b3 b4 b5 b6 b7 b8 b9 b10 b11 b12 b13 b14 → μ b1 b2 b3 b4 b5 b6 b7 b8 b9 b10 b11 b12 b13 b14 < μ a1 a2 a3 a4 a5 a6 a7 a8 a9 a10 a11 a12 a13 a14 → W n b1 b2 b3 b4 b5 b6 b7 b8 b9 b10 b11 b12 b13 b14) → W (n + 1) a1 a2 a3 a4 a5 a6 a7 a8 a9 a10 a11 a12 a13 a14) (a1 : A1) (a2 : A2) (a3 : A3) (a4 : A4) (a5 : A5) (a6 : A6) (a7 : A7) (a8 : A8) (a9 : A9) (a10 : A10) (a11 : A11) (a12 : A12) (a13 : A13) (a14 : A14) (h : I a1 a2 a3 a4 a5 a6 a7 a8 a9 a10 a11 a12 a13 a14) : ∃ n, W n a1 a2 a3 a4 a5 a6 a7 a8 a9 a10 a11 a12 a13 a14 :=
  loop_m (σ := A1 × A2 × A3 × A4 × A5 × A6 × A7 × A8 × A9 × A10 × A11 × A12 × A13 × A14) (fun n s => W n s.1 s.2.1 s.2.2.1 s.2.2.2.1 s.2.2.2.2.1 s.2.2.2.2.2.1 s.2.2.2.2.2.2.1 s.2.2.2.2.2.2.2.1 s.2.2.2.2.2.2.2.2.1 s.2.2.2.2.2.2.2.2.2.1 s.2.2.2.2.2.2.2.2.2.2.1 s.2.2.2.2.2.2.2.2.2.2.2.1 s.2.2.2.2.2.2.2.2.2.2.2.2.1 s.2.2.2.2.2.2.2.2.2.2.2.2.2) (fun s => I s.1 s.2.1 s.2.2.1 s.2.2.2.1 s.2.2.2.2.1 s.2.2.2.2.2.1 s.2.2.2.2.2.2.1 s.2.2.2.2.2.2.2.1 s.2.2.2.2.2.2.2.2.1 s.2.2.2.2.2.2.2.2.2.1 s.2.2.2.2.2.2.2.2.2.2.1 s.2.2.2.2.2.2.2.2.2.2.2.1 s.2.2.2.2.2.2.2.2.2.2.2.2.1 s.2.2.2.2.2.2.2.2.2.2.2.2.2) (fun s => μ s.1 s.2.1 s.2.2.1 s.2.2.2.1 s.2.2.2.2.1 s.2.2.2.2.2.1 s.2.2.2.2.2.2.1 s.2.2.2.2.2.2.2.1 s.2.2.2.2.2.2.2.2.1 s.2.2.2.2.2.2.2.2.2.1 s.2.2.2.2.2.2.2.2.2.2.1 s.2.2.2.2.2.2.2.2.2.2.2.1 s.2.2.2.2.2.2.2.2.2.2.2.2.1 s.2.2.2.2.2.2.2.2.2.2.2.2.2) (fun n s hI hk => hs n s.1 s.2.1 s.2.2.1 s.2.2.2.1 s.2.2.2.2.1 s.2.2.2.2.2.1 s.2.2.2.2.2.2.1 s.2.2.2.2.2.2.2.1 s.2.2.2.2.2.2.2.2.1 s.2.2.2.2.2.2.2.2.2.1 s.2.2.2.2.2.2.2.2.2.2.1 s.2.2.2.2.2.2.2.2.2.2.2.1 s.2.2.2.2.2.2.2.2.2.2.2.2.1 s.2.2.2.2.2.2.2.2.2.2.2.2.2 hI (fun b1 b2 b3 b4 b5 b6 b7 b8 b9 b10 b11 b12 b13 b14 h9 hm => hk (b1, b2, b3, b4, b5, b6, b7, b8, b9, b10, b11, b12, b13, b14) h9 hm)) (a1, a2, a3, a4, a5, a6, a7, a8, a9, a10, a11, a12, a13, a14) h
theorem lp15 {A1 A2 A3 A4 A5 A6 A7 A8 A9 A10 A11 A12 A13 A14 A15 : Type} (W : Nat → A1 → A2 → A3 → A4 → A5 → A6 → A7 → A8 → A9 → A10 → A11 → A12 → A13 → A14 → A15 → Prop) (I : A1 → A2 → A3 → A4 → A5 → A6 → A7 → A8 → A9 → A10 → A11 → A12 → A13 → A14 → A15 → Prop) (μ : A1 → A2 → A3 → A4 → A5 → A6 → A7 → A8 → A9 → A10 → A11 → A12 → A13 → A14 → A15 → Nat) (hs : ∀ (n : Nat) (a1 : A1) (a2 : A2) (a3 : A3) (a4 : A4) (a5 : A5) (a6 : A6) (a7 : A7) (a8 : A8) (a9 : A9) (a10 : A10) (a11 : A11) (a12 : A12) (a13 : A13) (a14 : A14) (a15 : A15), I a1 a2 a3 a4 a5 a6 a7 a8 a9 a10 a11 a12 a13 a14 a15 → (∀ (b1 : A1) (b2 : A2) (b3 : A3) (b4 : A4) (b5 : A5) (b6 : A6) (b7 : A7) (b8 : A8) (b9 : A9) (b10 : A10) (b11 : A11) (b12 : A12) (b13 : A13) (b14 : A14) (b15 : A15), I b1 b2 b3 b4 b5 b6 b7 b8 b9 b10 b11 b12 b13 b14 b15 → μ b1 b2 b3 b4 b5 b6 b7 b8 b9 b10 b11 b12 b13 b14 b15 < μ a1 a2 a3 a4 a5 a6 a7 a8 a9 a10 a11 a12 a13 a14 a15 → W n b1 b2 b3 b4 b5 b6 b7 b8 b9 b10 b11 b12 b13 b14 b15) → W (n + 1) a1 a2 a3 a4 a5 a6 a7 a8 a9 a10 a11 a12 a13 a14 a15) (a1 : A1) (a2 : A2) (a3 : A3) (a4 : A4) (a5 : A5) (a6 : A6) (a7 : A7) (a8 : A8) (a9 : A9) (a10 : A10) (a11 : A11) (a12 : A12) (a13 : A13) (a14 : A14) (a15 : A15) (h : I a1 a2 a3 a4 a5 a6 a7 a8 a9 a10 a11 a12 a13 a14 a15) : ∃ n, W n a1 a2 a3 a4 a5 a6 a7 a8 a9 a10 a11 a12 a13 a14 a15 :=
  loop_m (σ := A1 × A2 × A3 × A4 × A5 × A6 × A7 × A8 × A9 × A10 × A11 × A12 × A13 × A14 × A15) (fun n s => W n s.1 s.2.1 s.2.2.1 s.2.2.2.1 s.2.2.2.2.1 s.2.2.2.2.2.1 s.2.2.2.2.2.2.1 s.2.2.2.2.2.2.2.1 s.2.2.2.2.2.2.2.2.1 s.2.2.2.2.2.2.2.2.2.1 s.2.2.2.2.2.2.2.2.2.2.1 s.2.2.2.2.2.2.2.2.2.2.2.1 s.2.2.2.2.2.2.2.2.2.2.2.2.1 s.2.2.2.2.2.2.2.2.2.2.2.2.2.1 s.2.2.2.2.2.2.2.2.2.2.2.2.2.2) (fun s => I s.1 s.2.1 s.2.2.1 s.2.2.2.1 s.2.2.2.2.1 s.2.2.2.2.2.1 s.2.2.2.2.2.2.1 s.2.2.2.2.2.2.2.1 s.2.2.2.2.2.2.2.2.1 s.2.2.2.2.2.2.2.2.2.1 s.2.2.2.2.2.2.2.2.2.2.1 s.2.2.2.2.2.2.2.2.2.2.2.1 s.2.2.2.2.2.2.2.2.2.2.2.2.1 s.2.2.2.2.2.2.2.2.2.2.2.2.2.1 s.2.2.2.2.2.2.2.2.2.2.2.2.2.2) (fun s => μ s.1 s.2.1 s.2.2.1 s.2.2.2.1 s.2.2.2.2.1 s.2.2.2.2.2.1 s.2.2.2.2.2.2.1 s.2.2.2.2.2.2.2.1 s.2.2.2.2.2.2.2.2.1 s.2.2.2.2.2.2.2.2.2.1 s.2.2.2.2.2.2.2.2.2.2.1 s.2.2.2.2.2.2.2.2.2.2.2.1 s.2.2.2.2.2.2.2.2.2.2.2.2.1 s.2.2.2.2.2.2.2.2.2.2.2.2.2.1 s.2.2.2.2.2.2.2.2.2.2.2.2.2.2) (fun n s hI hk => hs n s.1 s.2.1 s.2.2.1 s.2.2.2.1 s.2.2.2.2.1 s.2.2.2.2.2.1 s.2.2.2.2.2.2.1 s.2.2.2.2.2.2.2.1 s.2.2.2.2.2.2.2.2.1 s.2.2.2.2.2.2.2.2.2.1 s.2.2.2.2.2.2.2.2.2.2.1 s.2.2.2.2.2.2.2.2.2.2.2.1 s.2.2.2.2.2.2.2.2.2.2.2.2.1 s.2.2.2.2.2.2.2.2.2.2.2.2.2.1 s.2.2.2.2.2.2.2.2.2.2.2.2.2.2 hI (fun b1 b2 b3 b4 b5 b6 b7 b8 b9 b10 b11 b12 b13 b14 b15 h9 hm => hk (b1, b2, b3, b4, b5, b6, b7, b8, b9, b10, b11, b12, b13, b14, b15) h9 hm)) (a1, a2, a3, a4, a5, a6, a7, a8, a9, a10, a11, a12, a13, a14, a15) h
theorem lp16 {A1 A2 A3 A4 A5 A6 A7 A8 A9 A10 A11 A12 A13 A14 A15 A16 : Type} (W : Nat → A1 → A2 → A3 → A4 → A5 → A6 → A7 → A8 → A9 → A10 → A11 → A12 → A13 → A14 → A15 → A16 → Prop) (I : A1 → A2 → A3 → A4 → A5 → A6 → A7 → A8 → A9 → A10 → A11 → A12 → A13 → A14 → A15 → A16 → Prop) (μ : A1 → A2 → A3 → A4 → A5 → A6 → A7 → A8 → A9 → A10 → A11 → A12 → A13 → A14 → A15 → A16 → Nat) (hs : ∀ (n : Nat) (a1 : A1) (a2 : A2) (a3 : A3) (a4 : A4) (a5 : A5) (a6 : A6) (a7 : A7) (a8 : A8) (a9 : A9) (a10 : A10) (a11 : A11) (a12 : A12) (a13 : A13) (a14 : A14) (a15 : A15) (a16 : A16), I a1 a2 a3 a4 a5 a6 a7 a8 a9 a10 a11 a12 a13 a14 a15 a16 → (∀ (b1 : A1) (b2 : A2) (b3 : A3) (b4 : A4) (b5 : A5) (b6 : A6) (b7 : A7) (b8 : A8) (b9 : A9) (b10 : A10) (b11 : A11) (b12 : A12) (b13 : A13) (b14 : A14) (b15 : A15) (b16 : A16), I b1 b2 b3 b4 b5 b6 b7 b8 b9 b10 b11 b12 b13 b14 b15 b16 → μ b1 b2 b3 b4 b5 b6 b7 b8 b9 b10 b11 b12 b13 b14 b15 b16 < μ a1 a2 a3 a4 a5 a6 a7 a8 a9 a10 a11 a12 a13 a14 a15 a16 → W n b1 b2 b3 b4 b5 b6 b7 b8 b9 b10 b11 b12 b13 b14 b15 b16) → W (n + 1) a1 a2 a3 a4 a5 a6 a7 a8 a9 a10 a11 a12 a13 a14 a15 a16) (a1 : A1) (a2 : A2) (a3 : A3) (a4 : A4) (a5 : A5) (a6 : A6) (a7 : A7) (a8 : A8) (a9 : A9) (a10 : A10) (a11 : A11) (a12 : A12) (a13 : A13) (a14 : A14) (a15 : A15) (a16 : A16) (h : I a1 a2 a3 a4 a5 a6 a7 a8 a9 a10 a11 a12 a13 a14 a15 a16) : ∃ n, W n a1 a2 a3 a4 a5 a6 a7 a8 a9 a10 a11 a12 a13 a14 a15 a16 :=
  loop_m (σ := A1 × A2 × A3 × A4 × A5 × A6 × A7 × A8 × A9 × A10 × A11 × A12 × A13 × A14 × A15 × A16) (fun n s => W n s.1 s.2.1 s.2.2.1 s.2.2.2.1 s.2.2.2.2.1 s.2.2.2.2.2.1 s.2.2.2.2.2.2.1 s.2.2.2.2.2.2.2.1 s.2.2.2.2.2.2.2.2.1 s.2.2.2.2.2.2.2.2.2.1 s.2.2.2.2.2.2.2.2.2.2.1 s.2.2.2.2.2.2.2.2.2.2.2.1 s.2.2.2.2.2.2.2.2.2.2.2.2.1 s.2.2.2.2.2.2.2.2.2.2.2.2.2.1 s.2.2.2.2.2.2.2.2.2.2.2.2.2.2.1 s.2.2.2.2.2.2.2.2.2.2.2.2.2.2.2) (fun s => I s.1 s.2.1 s.2.2.1 s.2.2.2.1 s.2.2.2.2.1 s.2.2.2.2.2.1 s.2.2.2.2.2.2.1 s.2.2.2.2.2.2.2.1 s.2.2.2.2.2.2.2.2.1 s.2.2.2.2.2.2.2.2.2.1 s.2.2.2.2.2.2.2.2.2.2.1 s.2.2.2.2.2.2.2.2.2.2.2.1 s.2.2.2.2.2.2.2.2.2.2.2.2.1 s.2.2.2.2.2.2.2.2.2.2.2.2.2.1 s.2.2.2.2.2.2.2.2.2.2.2.2.2.2.1 s.2.2.2.2.2.2.2.2.2.2.2.2.2.2.2) (fun s => μ s.1 s.2.1 s.2.2.1 s.2.2.2.1 s.2.2.2.2.1 s.2.2.2.2.2.1 s.2.2.2.2.2.2.1 s.2.2.2.2.2.2.2.1 s.2.2.2.2.2.2.2.2.1 s.2.2.2.2.2.2.2.2.2.1 s.2.2.2.2.2.2.2.2.2.2.1 s.2.2.2.2.2.2.2.2.2.2.2.1 s.2.2.2.2.2.2.2.2.2.2.2.2.1 s.2.2.2.2.2.2.2.2.2.2.2.2.2.1 s.2.2.2.2.2.2.2.2.2.2.2.2.2.2.1 s.2.2.2.2.2.2.2.2.2.2.2.2.2.2.2) (fun n s hI hk => hs n s.1 s.2.1 s.2.2.1 s.2.2.2.1 s.2.2.2.2.1 s.2.2.2.2.2.1 s.2.2.2.2.2.2.1 s.2.2.2.2.2.2.2.1 s.2.2.2.2.2.2.2.2.1 s.2.2.2.2.2.2.2.2.2.1 s.2.2.2.2.2.2.2.2.2.2.1 s.2.2.2.2.2.2.2.2.2.2.2.1 s.2.2.2.2.2.2.2.2.2.2.2.2.1 s.2.2.2.2.2.2.2.2.2.2.2.2.2.1 s.2.2.2.2.2.2.2.2.2.2.2.2.2.2.1 s.2.2.2.2.2.2.2.2.2.2.2.2.2.2.2 hI (fun b1 b2 b3 b4 b5 b6 b7 b8 b9 b10 b11 b12 b13 b14 b15 b16 h9 hm => hk (b1, b2, b3, b4, b5, b6, b7, b8, b9, b10, b11, b12, b13, b14, b15, b16) h9 hm)) (a1, a2, a3, a4, a5, a6, a7, a8, a9, a10, a11, a12, a13, a14, a15, a16) h
theorem pk_least (P : Nat → Prop) (h : ∃ k, P k) : ∃ k, P k ∧ ∀ j, j < k → ¬ P j := by
  obtain ⟨k, hk⟩ := h
  induction k using Nat.strongRecOn with
  | ind k ih =>
    by_cases e : ∃ j, j < k ∧ P j
    · obtain ⟨j, hj, pj⟩ := e
      exact ih j hj pj
    · exact ⟨k, hk, fun j hj pj => e ⟨j, hj, pj⟩⟩
theorem rp1 {ρ A1 : Type} (W : Nat → (ρ → Prop) → A1 → Prop) (ok : A1 → Prop) (μ : A1 → Nat) (val : A1 → ρ)
    (hs : ∀ (d : Nat) (post : ρ → Prop) (a1 : A1), ok a1 → post (val a1) → (∀ (post' : ρ → Prop) (b1 : A1), ok b1 → μ b1 < μ a1 → post' (val b1) → W d post' b1) → W (d + 1) post a1) :
    ∀ (d : Nat) (post : ρ → Prop) (a1 : A1), ok a1 → μ a1 < d → post (val a1) → W d post a1 := by
  intro d
  induction d with
  | zero => intro post a1 _ h; omega
  | succ d ih =>
    intro post a1 ho hm hp
    exact hs d post a1 ho hp (fun post' b1 ho' hm' hp' => ih post' b1 ho' (by omega) hp')
theorem rp2 {ρ A1 A2 : Type} (W : Nat → (ρ → Prop) → A1 → A2 → Prop) (ok : A1 → A2 → Prop) (μ : A1 → A2 → Nat) (val : A1 → A2 → ρ)
    (hs : ∀ (d : Nat) (post : ρ → Prop) (a1 : A1) (a2 : A2), ok a1 a2 → post (val a1 a2) → (∀ (post' : ρ → Prop) (b1 : A1) (b2 : A2), ok b1 b2 → μ b1 b2 < μ a1 a2 → post' (val b1 b2) → W d post' b1 b2) → W (d + 1) post a1 a2) :
    ∀ (d : Nat) (post : ρ → Prop) (a1 : A1) (a2 : A2), ok a1 a2 → μ a1 a2 < d → post (val a1 a2) → W d post a1 a2 := by
  intro d
  induction d with
  | zero => intro post a1 a2 _ h; omega
  | succ d ih =>
    intro post a1 a2 ho hm hp
    exact hs d post a1 a2 ho hp (fun post' b1 b2 ho' hm' hp' => ih post' b1 b2 ho' (by omega) hp')
theorem rp3 {ρ A1 A2 A3 : Type} (W : Nat → (ρ → Prop) → A1 → A2 → A3 → Prop) (ok : A1 → A2 → A3 → Prop) (μ : A1 → A2 → A3 → Nat) (val : A1 → A2 → A3 → ρ)
    (hs : ∀ (d : Nat) (post : ρ → Prop) (a1 : A1) (a2 : A2) (a3 : A3), ok a1 a2 a3 → post (val a1 a2 a3) → (∀ (post' : ρ → Prop) (b1 : A1) (b2 : A2) (b3 : A3), ok b1 b2 b3 → μ b1 b2 b3 < μ a1 a2 a3 → post' (val b1 b2 b3) → W d post' b1 b2 b3) → W (d + 1) post a1 a2 a3) :
    ∀ (d : Nat) (post : ρ → Prop) (a1 : A1) (a2 : A2) (a3 : A3), ok a1 a2 a3 → μ a1 a2 a3 < d → post (val a1 a2 a3) → W d post a1 a2 a3 := by
  intro d
  induction d with
  | zero => intro post a1 a2 a3 _ h; omega
  | succ d ih =>
    intro post a1 a2 a3 ho hm hp
    exact hs d post a1 a2 a3 ho hp (fun post' b1 b2 b3 ho' hm' hp' => ih post' b1 b2 b3 ho' (by omega) hp')
theorem rp4 {ρ A1 A2 A3 A4 : Type} (W : Nat → (ρ → Prop) → A1 → A2 → A3 → A4 → Prop) (ok : A1 → A2 → A3 → A4 → Prop) (μ : A1 → A2 → A3 → A4 → Nat) (val : A1 → A2 → A3 → A4 → ρ)
    (hs : ∀ (d : Nat) (post : ρ → Prop) (a1 : A1) (a2 : A2) (a3 : A3) (a4 : A4), ok a1 a2 a3 a4 → post (val a1 a2 a3 a4) → (∀ (post' : ρ → Prop) (b1 : A1) (b2 : A2) (b3 : A3) (b4 : A4), ok b1 b2 b3 b4 → μ b1 b2 b3 b4 < μ a1 a2 a3 a4 → post' (val b1 b2 b3 b4) → W d post' b1 b2 b3 b4) → W (d + 1) post a1 a2 a3 a4) :
    ∀ (d : Nat) (post : ρ → Prop) (a1 : A1) (a2 : A2) (a3 : A3) (a4 : A4), ok a1 a2 a3 a4 → μ a1 a2 a3 a4 < d → post (val a1 a2 a3 a4) → W d post a1 a2 a3 a4 := by
  intro d
  induction d with
  | zero => intro post a1 a2 a3 a4 _ h; omega
  | succ d ih =>
    intro post a1 a2 a3 a4 ho hm hp
    exact hs d post a1 a2 a3 a4 ho hp (fun post' b1 b2 b3 b4 ho' hm' hp' => ih post' b1 b2 b3 b4 ho' (by omega) hp')
theorem rp5 {ρ A1 A2 A3 A4 A5 : Type} (W : Nat → (ρ → Prop) → A1 → A2 → A3 → A4 → A5 → Prop) (ok : A1 → A2 → A3 → A4 → A5 → Prop) (μ : A1 → A2 → A3 → A4 → A5 → Nat) (val : A1 → A2 → A3 → A4 → A5 → ρ)
    (hs : ∀ (d : Nat) (post : ρ → Prop) (a1 : A1) (a2 : A2) (a3 : A3) (a4 : A4) (a5 : A5), ok a1 a2 a3 a4 a5 → post (val a1 a2 a3 a4 a5) → (∀ (post' : ρ → Prop) (b1 : A1) (b2 : A2) (b3 : A3) (b4 : A4) (b5 : A5), ok b1 b2 b3 b4 b5 → μ b1 b2 b3 b4 b5 < μ a1 a2 a3 a4 a5 → post' (val b1 b2 b3 b4 b5) → W d post' b1 b2 b3 b4 b5) → W (d + 1) post a1 a2 a3 a4 a5) :
    ∀ (d : Nat) (post : ρ → Prop) (a1 : A1) (a2 : A2) (a3 : A3) (a4 : A4) (a5 : A5), ok a1 a2 a3 a4 a5 → μ a1 a2 a3 a4 a5 < d → post (val a1 a2 a3 a4 a5) → W d post a1 a2 a3 a4 a5 := by
  intro d
  induction d with
  | zero => intro post a1 a2 a3 a4 a5 _ h; omega
  | succ d ih =>
    intro post a1 a2 a3 a4 a5 ho hm hp
    exact hs d post a1 a2 a3 a4 a5 ho hp (fun post' b1 b2 b3 b4 b5 ho' hm' hp' => ih post' b1 b2 b3 b4 b5 ho' (by omega) hp')
theorem rp6 {ρ A1 A2 A3 A4 A5 A6 : Type} (W : Nat → (ρ → Prop) → A1 → A2 → A3 → A4 → A5 → A6 → Prop) (ok : A1 → A2 → A3 → A4 → A5 → A6 → Prop) (μ : A1 → A2 → A3 → A4 → A5 → A6 → Nat) (val : A1 → A2 → A3 → A4 → A5 → A6 → ρ)
    (hs : ∀ (d : Nat) (post : ρ → Prop) (a1 : A1) (a2 : A2) (a3 : A3) (a4 : A4) (a5 : A5) (a6 : A6), ok a1 a2 a3 a4 a5 a6 → post (val a1 a2 a3 a4 a5 a6) → (∀ (post' : ρ → Prop) (b1 : A1) (b2 : A2) (b3 : A3) (b4 : A4) (b5 : A5) (b6 : A6), ok b1 b2 b3 b4 b5 b6 → μ b1 b2 b3 b4 b5 b6 < μ a1 a2 a3 a4 a5 a6 → post' (val b1 b2 b3 b4 b5 b6) → W d post' b1 b2 b3 b4 b5 b6) → W (d + 1) post a1 a2 a3 a4 a5 a6) :
    ∀ (d : Nat) (post : ρ → Prop) (a1 : A1) (a2 : A2) (a3 : A3) (a4 : A4) (a5 : A5) (a6 : A6), ok a1 a2 a3 a4 a5 a6 → μ a1 a2 a3 a4 a5 a6 < d → post (val a1 a2 a3 a4 a5 a6) → W d post a1 a2 a3 a4 a5 a6 := by
  intro d
  induction d with
  | zero => intro post a1 a2 a3 a4 a5 a6 _ h; omega
  | succ d ih =>
    intro post a1 a2 a3 a4 a5 a6 ho hm hp
    exact hs d post a1 a2 a3 a4 a5 a6 ho hp (fun post' b1 b2 b3 b4 b5 b6 ho' hm' hp' => ih post' b1 b2 b3 b4 b5 b6 ho' (by omega) hp')
theorem rec_p {σ ρ : Type} (W : Nat → (ρ → Prop) → σ → Prop) (ok : σ → Prop) (μ : σ → Nat) (val : σ → ρ)
    (hs : ∀ d s post, ok s → post (val s) → (∀ s' post', ok s' → μ s' < μ s → post' (val s') → W d post' s') → W (d + 1) post s) :
    ∀ d s post, ok s → μ s < d → post (val s) → W d post s := by
  intro d
  induction d with
  | zero => intro s post _ h; omega
  | succ d ih =>
    intro s post ho hm hp
    exact hs d s post ho hp (fun s' post' ho' hm' hp' => ih s' post' ho' (by omega) hp')
theorem rec_q {σ ρ : Type} (W : Nat → (ρ → Prop) → σ → Prop) (ok : σ → Prop) (μ : σ → Nat) (Q : σ → ρ → Prop)
    (hs : ∀ d s post, ok s → (∀ r, Q s r → post r) → (∀ s' post', ok s' → μ s' < μ s → (∀ r, Q s' r → post' r) → W d post' s') → W (d + 1) post s) :
    ∀ d s post, ok s → μ s < d → (∀ r, Q s r → post r) → W d post s := by
  intro d
  induction d with
  | zero => intro s post _ h; omega
  | succ d ih =>
    intro s post ho hm hp
    exact hs d s post ho hp (fun s' post' ho' hm' hp' => ih s' post' ho' (by omega) hp')
def bx_sum (f : Nat → Int32) : Nat → Int32
  | 0 => 0
  | n + 1 => bx_sum f n + f n
theorem ek_u {A : Prop} {B : Nat → Prop} {k N : Nat} (hk : k < N) (h : B k) : (some k = none → A) ∧ (∀ y : Nat, some k = some y → (y < N ∧ B y)) :=
  ⟨fun z => absurd z (Option.some_ne_none k), fun _ e => (by cases e; exact ⟨hk, h⟩)⟩
theorem ek_nu {A : Prop} {B : Nat → Prop} (h : A) : ((none : Option Nat) = none → A) ∧ (∀ y : Nat, (none : Option Nat) = some y → B y) :=
  ⟨fun _ => h, fun _ e => (by cases e)⟩
theorem ek_if {c d A B : Prop} (e : c ↔ d) (f : d → A) (g : ¬ d → B) : (c → A) ∧ (¬ c → B) :=
  ⟨fun z => f (e.mp z), fun z => g (fun y => z (e.mpr y))⟩
theorem ek_v {α : Sort _} {P : α → Prop} {a b : α} (e : a = b) (h : P b) : P a := e ▸ h
theorem co_some {x : Option Nat} {A : Prop} {B : Nat → Prop} (i : Nat) (h : B i) (hx : x = some i := by rfl) : (x = none → A) ∧ (∀ y : Nat, x = some y → B y) := by
  subst hx
  exact ⟨fun e => (nomatch e), fun y e => Option.some.inj e ▸ h⟩
theorem co_none {x : Option Nat} {A : Prop} {B : Nat → Prop} (h : A) (hx : x = none := by rfl) : (x = none → A) ∧ (∀ y : Nat, x = some y → B y) := by
  subst hx
  exact ⟨fun _ => h, fun y e => (nomatch e)⟩
theorem co_any {x : Option Nat} {A : Prop} {B : Nat → Prop} (hn : x = none → A) (hs : ∀ i : Nat, x = some i → B i) : (x = none → A) ∧ (∀ y : Nat, x = some y → B y) := ⟨hn, hs⟩
theorem co_2 {P : Nat → Prop} (h0 : P 0) (h1 : P 1) {i : Nat} (hi : i < 2) : P i :=
  match i, hi with
  | 0, _ => h0
  | 1, _ => h1
theorem co_3 {P : Nat → Prop} (h0 : P 0) (h1 : P 1) (h2 : P 2) {i : Nat} (hi : i < 3) : P i :=
  match i, hi with
  | 0, _ => h0
  | 1, _ => h1
  | 2, _ => h2
theorem co_4 {P : Nat → Prop} (h0 : P 0) (h1 : P 1) (h2 : P 2) (h3 : P 3) {i : Nat} (hi : i < 4) : P i :=
  match i, hi with
  | 0, _ => h0
  | 1, _ => h1
  | 2, _ => h2
  | 3, _ => h3
theorem co_dec {N : Nat} {P : Nat → Prop} [DecidablePred P] (h : (List.range N).all (fun i => decide (P i)) = true) {i : Nat} (hi : i < N) : P i := by
  have := List.all_eq_true.mp h i (List.mem_range.mpr hi)
  exact of_decide_eq_true this
theorem co_tab {α : Type} {l : List α} {d : α} {P : α → Prop} (h : ∀ a, a ∈ l → P a) {i : Nat} (hi : i < l.length) : P (l.getD i d) := by
  rw [List.getD_eq_getElem?_getD, List.getElem?_eq_getElem hi]
  exact h _ (List.getElem_mem hi)
theorem pk_mu {x : Int32} {L : Nat} (h0 : ¬ x < 0) (h : ¬ nI L ≤ x) (hL : L < 2 ^ 31) : ∃ j : Nat, j < L ∧ x = nI j ∧ x + 1 = nI (j + 1) ∧ x.toNatClampNeg = j ∧ L - (x + 1).toNatClampNeg < L - x.toNatClampNeg := by
  obtain ⟨j, hj, rfl⟩ := nI_of h0
  have hl : j < L := Nat.not_le.mp fun q => h (nI_le q hj)
  refine ⟨j, hl, rfl, nI_1 j, nI_clamp hj, ?_⟩
  rw [nI_1, nI_clamp (by omega), nI_clamp hj]
  omega
theorem op_s {α : Type} {r : Option α} {A : Prop} {B : α → Prop} {y : α} (h : r = some y) (b : B y) : (r = none → A) ∧ ∀ z, r = some z → B z :=
  ⟨fun e => (by rw [h] at e; cases e), fun z e => (by rw [h] at e; cases e; exact b)⟩
def l_holds {α : Type} (a : Nat → Option Nat) (LP : List Nat) (p : Nat → α) (c : Nat) (b : Nat → α) : Prop :=
  ∀ j, j < c → ∃ y, a j = some y ∧ y ∈ LP ∧ p y = b j
theorem l_holds_0 {α : Type} {a : Nat → Option Nat} {LP : List Nat} {p b : Nat → α} : l_holds a LP p 0 b := fun j h => absurd h (Nat.not_lt_zero j)
theorem l_in_new (LP : List Nat) (q : Nat) : q ∈ LP ++ [q] := List.mem_append.mpr (Or.inr (List.mem_singleton.mpr rfl))
def l_sum (b : Nat → Int32) : Nat → Int32
  | 0 => 0
  | k + 1 => l_sum b k + b k
theorem sb_shr0 (x : Int32) : x >>> ((0 : Int32) &&& 31) = x := by
  rw [show ((0 : Int32) &&& 31) = 0 by decide]
  simp
theorem sb_shl0 (x : Int32) : x <<< ((0 : Int32) &&& 31) = x := by
  rw [show ((0 : Int32) &&& 31) = 0 by decide]
  simp
theorem sb_cl0 : (0 : Int32).toNatClampNeg = 0 := by decide
theorem sb_m1 {p : Nat} (h : 0 < p) : nI p + (-1) = nI (p - 1) := by
  obtain ⟨q, rfl⟩ : ∃ q, p = q + 1 := ⟨p - 1, by omega⟩
  exact pk_m1 q
def sb_b (c : Nat) : Int32 := (nI c).toInt8.toInt32
theorem sb_byte : ∀ c, c < 256 → sb_b c &&& 255 = nI c ∧ ((nI c).toUInt32 % 65536).toInt32 = nI c ∧ nI c ≤ 255 := by decide +kernel
def sb_Fit (a : Nat → Int32) : Prop := ∀ j, fits .byte (.int (a j)) = true
def sb_Lat (t : Nat → Nat) (n : Nat) (a : Nat → Int32) : Prop := ∀ j, j < n → t j < 256 ∧ a j = sb_b (t j)
theorem sb_fitB (c : Nat) : fits .byte (.int (sb_b c)) = true := pk_fb _
theorem sb_fit0 : sb_Fit (fun _ => 0) := fun _ => by
  show fits .byte (.int 0) = true
  decide
theorem sb_fitU {a : Nat → Int32} {k : Nat} {x : Int32} (h : sb_Fit a) (hx : fits .byte (.int x) = true) : sb_Fit (upd a k x) := by
  intro j
  by_cases e : j = k
  · subst e
    rw [pk_us]
    exact hx
  · rw [pk_un e]
    exact h j
def sb_cat (t : Nat → Nat) (n : Nat) (s : Nat → Nat) : Nat → Nat := fun j => if j < n then t j else s (j - n)
theorem sb_cat_lo {t s : Nat → Nat} {n j : Nat} (h : j < n) : sb_cat t n s j = t j := if_pos h
theorem sb_cat_hi {t s : Nat → Nat} {n j : Nat} : sb_cat t n s (n + j) = s j := by
  show (if n + j < n then t (n + j) else s (n + j - n)) = s j
  rw [if_neg (by omega), Nat.add_sub_cancel_left]
theorem sb_latPut {t s : Nat → Nat} {n w : Nat} {a a' : Nat → Int32} (h : sb_Lat t n a) (hk : ∀ j, j < n → a' j = a j) (hs : ∀ i, i < w → s i < 256 ∧ a' (n + i) = sb_b (s i)) : sb_Lat (sb_cat t n s) (n + w) a' := by
  intro j hj
  by_cases e : j < n
  · rw [sb_cat_lo e, hk j e]
    exact h j e
  · obtain ⟨i, rfl⟩ : ∃ i, j = n + i := ⟨j - n, by omega⟩
    rw [sb_cat_hi]
    exact hs i (by omega)
theorem sb_latKeep {t : Nat → Nat} {n : Nat} {a a' : Nat → Int32} (h : sb_Lat t n a) (hk : ∀ j, j < n → a' j = a j) : sb_Lat t n a' := fun j hj => by
  rw [hk j hj]
  exact h j hj
def sb_cap (q m : Nat) : Nat := if q ≤ m then m else if 2 * m + 2 < q then q else 2 * m + 2
def sb_Room (q m mc ms : Nat) : Prop := q ≤ m ∨ (1 ≤ mc ∧ sb_cap q m ≤ ms ∧ sb_cap q m ≤ 65536)
theorem sb_cap_ge (q m : Nat) : q ≤ sb_cap q m := by
  unfold sb_cap
  split
  · omega
  · split <;> omega
theorem sb_cap_gem (q m : Nat) : m ≤ sb_cap q m := by
  unfold sb_cap
  split
  · omega
  · split <;> omega
theorem sb_cap_le {q m mc ms : Nat} (hm : m ≤ 65536) (hr : sb_Room q m mc ms) : sb_cap q m ≤ 65536 := by
  rcases hr with h | h
  · rw [sb_cap, if_pos h]
    exact hm
  · exact h.2.2
theorem sb_at {P : Int32 → Prop} {x y : Int32} (e : x = y) (h : P y) : P x := e ▸ h
def sb_dg (w : Nat) : Nat := if w < 10 then 1 else if w < 100 then 2 else if w < 1000 then 3 else if w < 10000 then 4 else if w < 100000 then 5 else if w < 1000000 then 6 else if w < 10000000 then 7 else if w < 100000000 then 8 else if w < 1000000000 then 9 else 10
def sb_dec (v : Nat) : Nat → Nat := fun i => 48 + v / 10 ^ (sb_dg v - 1 - i) % 10
theorem sb_dg_in (w : Nat) : 1 ≤ sb_dg w ∧ sb_dg w ≤ 10 := by
  unfold sb_dg
  constructor <;> (repeat' split) <;> omega
theorem sb_dg100 {w : Nat} (h : 100 ≤ w) (hw : w < 2 ^ 31) : sb_dg w = sb_dg (w / 100) + 2 := by
  rw [sb_dg, sb_dg, if_neg (show ¬ w < 10 by omega), if_neg (show ¬ w < 100 by omega)]
  by_cases h3 : w < 1000
  · rw [if_pos h3, if_pos (show w / 100 < 10 by omega)]
  rw [if_neg h3, if_neg (show ¬ w / 100 < 10 by omega)]
  by_cases h4 : w < 10000
  · rw [if_pos h4, if_pos (show w / 100 < 100 by omega)]
  rw [if_neg h4, if_neg (show ¬ w / 100 < 100 by omega)]
  by_cases h5 : w < 100000
  · rw [if_pos h5, if_pos (show w / 100 < 1000 by omega)]
  rw [if_neg h5, if_neg (show ¬ w / 100 < 1000 by omega)]
  by_cases h6 : w < 1000000
  · rw [if_pos h6, if_pos (show w / 100 < 10000 by omega)]
  rw [if_neg h6, if_neg (show ¬ w / 100 < 10000 by omega)]
  by_cases h7 : w < 10000000
  · rw [if_pos h7, if_pos (show w / 100 < 100000 by omega)]
  rw [if_neg h7, if_neg (show ¬ w / 100 < 100000 by omega)]
  by_cases h8 : w < 100000000
  · rw [if_pos h8, if_pos (show w / 100 < 1000000 by omega)]
  rw [if_neg h8, if_neg (show ¬ w / 100 < 1000000 by omega)]
  by_cases h9 : w < 1000000000
  · rw [if_pos h9, if_pos (show w / 100 < 10000000 by omega)]
  rw [if_neg h9, if_neg (show ¬ w / 100 < 10000000 by omega)]
  rw [if_pos (show w / 100 < 100000000 by omega)]
theorem sb_negT {w : Nat} (h : w < 2 ^ 31) : (-nI w).toInt = -(w : Int) := by
  rw [Int32.toInt_neg, nI_toInt h]
  exact Int.bmod_eq_of_le (by omega) (by omega)
theorem sb_nle {a b : Nat} (ha : a < 2 ^ 31) (hb : b < 2 ^ 31) : -nI a ≤ -nI b ↔ b ≤ a := by
  rw [Int32.le_iff_toInt_le, sb_negT ha, sb_negT hb]
  omega
theorem sb_nlt {a b : Nat} (ha : a < 2 ^ 31) (hb : b < 2 ^ 31) : -nI a < -nI b ↔ b < a := by
  rw [Int32.lt_iff_toInt_lt, sb_negT ha, sb_negT hb]
  omega
theorem sb_cmp {A B : Prop} {x : Int32} (v c : Nat) (f : c ≤ v → A) (g : v < c → B) (hv : v < 2 ^ 31) (hx : x = -nI c := by rfl) (hc : c < 2 ^ 31 := by omega) : (-nI v ≤ x → A) ∧ (¬ -nI v ≤ x → B) := by
  subst hx
  rw [sb_nle hv hc]
  exact ⟨f, fun z => g (by omega)⟩
theorem sb_ndiv {w : Nat} (hw : w < 2 ^ 31) : (-nI w) / 100 = -nI (w / 100) := by
  apply Int32.toInt_inj.mp
  have h100 : (100 : Int32).toInt = 100 := by decide
  rw [Int32.toInt_div, sb_negT hw, h100, sb_negT (by omega), Int.neg_tdiv, Int.tdiv_eq_ediv_of_nonneg (by omega), Int.bmod_eq_of_le (by omega) (by omega)]
  omega
theorem sb_nrem {w : Nat} (hw : w < 2 ^ 31) : (-nI (w / 100)) * 100 - (-nI w) = nI (w % 100) := by
  have h := pk_rem (a := w) (d := 100) hw (by decide) (by decide)
  rw [pk_div hw (by decide) (by decide)] at h
  rw [← h]
  show (-nI (w / 100)) * nI 100 - (-nI w) = nI w - nI (w / 100) * nI 100
  rw [Int32.neg_mul, Int32.sub_neg, Int32.add_comm, ← Int32.sub_eq_add_neg]
/-! rows on bits, shifts and unsigned numbers, to paste: each family out of a closed proof of our own, whole with what it rests on; each by itself clean at Lean in its own claim (generation 39, form 5). Take a family whole -/
/-! ===== Int32 by its bits: bt x i ===== -/
def bt (x : Int32) (i : Nat) : Bool := x.toBitVec.getLsbD i
theorem b_ext {x y : Int32} (h : ∀ i, i < 32 → bt x i = bt y i) : x = y := Int32.toBitVec_inj.mp (BitVec.eq_of_getLsbD_eq (fun i hi => h i hi))
theorem b_or (x y : Int32) (i : Nat) : bt (x ||| y) i = (bt x i || bt y i) := by unfold bt; rw [Int32.toBitVec_or, BitVec.getLsbD_or]
theorem b_and (x y : Int32) (i : Nat) : bt (x &&& y) i = (bt x i && bt y i) := by unfold bt; rw [Int32.toBitVec_and, BitVec.getLsbD_and]
theorem b_xor (x y : Int32) (i : Nat) : bt (x ^^^ y) i = (bt x i ^^ bt y i) := by unfold bt; rw [Int32.toBitVec_xor, BitVec.getLsbD_xor]
theorem b_big {x : Int32} {i : Nat} (h : 32 ≤ i) : bt x i = false := BitVec.getLsbD_of_ge _ _ h
theorem b_255 (i : Nat) : bt 255 i = decide (i < 8) := by
  rcases Nat.lt_or_ge i 32 with h | h
  · exact (by decide +kernel : ∀ i, i < 32 → bt 255 i = decide (i < 8)) i h
  · rw [b_big h, decide_eq_false (by omega)]
theorem b_65535 (i : Nat) : bt 65535 i = decide (i < 16) := by
  rcases Nat.lt_or_ge i 32 with h | h
  · exact (by decide +kernel : ∀ i, i < 32 → bt 65535 i = decide (i < 16)) i h
  · rw [b_big h, decide_eq_false (by omega)]
theorem b_m1 : ∀ i, i < 32 → bt (-1) i = true := by decide +kernel
theorem b_0 (i : Nat) : bt 0 i = false := BitVec.getLsbD_zero
theorem s_l : ∀ n, n < 32 → ((nI n &&& 31).toBitVec.smod 32).toNat = n := by decide +kernel
theorem s_u : ∀ n, n < 32 → (((nI n).toUInt32 &&& Int32.toUInt32 31).toBitVec % 32).toNat = n := by decide +kernel
theorem b_shl (n : Nat) (hn : n < 32) (x : Int32) {i : Nat} (hi : i < 32) : bt (x <<< (nI n &&& 31)) i = (decide (n ≤ i) && bt x (i - n)) := by
  unfold bt
  rw [Int32.toBitVec_shiftLeft]
  show (x.toBitVec <<< ((nI n &&& 31).toBitVec.smod 32).toNat).getLsbD i = _
  rw [s_l n hn, BitVec.getLsbD_shiftLeft]
  rcases Nat.lt_or_ge i n with h | h
  · simp [h, Nat.not_le.mpr h]
  · simp [hi, h, Nat.not_lt.mpr h]
theorem b_ushr (n : Nat) (hn : n < 32) (x : Int32) (i : Nat) : bt ((x.toUInt32 >>> ((nI n).toUInt32 &&& Int32.toUInt32 31)).toInt32) i = bt x (n + i) := by
  show (x.toUInt32 >>> ((nI n).toUInt32 &&& Int32.toUInt32 31)).toBitVec.getLsbD i = x.toUInt32.toBitVec.getLsbD (n + i)
  rw [UInt32.toBitVec_shiftRight]
  show (x.toUInt32.toBitVec >>> (((nI n).toUInt32 &&& Int32.toUInt32 31).toBitVec % 32).toNat).getLsbD i = _
  rw [s_u n hn, BitVec.getLsbD_ushiftRight]
theorem b_sshr (n : Nat) (hn : n < 32) (x : Int32) {i : Nat} (hi : i < 32) : bt (x >>> (nI n &&& 31)) i = if n + i < 32 then bt x (n + i) else bt x 31 := by
  unfold bt
  rw [Int32.toBitVec_shiftRight]
  show (x.toBitVec.sshiftRight ((nI n &&& 31).toBitVec.smod 32).toNat).getLsbD i = _
  rw [s_l n hn, BitVec.getLsbD_sshiftRight, BitVec.msb_eq_getLsbD_last]
  simp [hi]
theorem b_shl8 (x : Int32) {i : Nat} (hi : i < 32) : bt (x <<< ((8 : Int32) &&& 31)) i = (decide (8 ≤ i) && bt x (i - 8)) := b_shl 8 (by omega) x hi
theorem b_shl16 (x : Int32) {i : Nat} (hi : i < 32) : bt (x <<< ((16 : Int32) &&& 31)) i = (decide (16 ≤ i) && bt x (i - 16)) := b_shl 16 (by omega) x hi
theorem b_shl24 (x : Int32) {i : Nat} (hi : i < 32) : bt (x <<< ((24 : Int32) &&& 31)) i = (decide (24 ≤ i) && bt x (i - 24)) := b_shl 24 (by omega) x hi
theorem b_sshr8 (x : Int32) {i : Nat} (hi : i < 32) : bt (x >>> ((8 : Int32) &&& 31)) i = if 8 + i < 32 then bt x (8 + i) else bt x 31 := b_sshr 8 (by omega) x hi
/-! ===== nI under and, xor, >>>, one bit, 65535 ===== -/
theorem nx_and (a b : Nat) : nI a &&& nI b = nI (a &&& b) := by
  apply Int32.toBitVec_inj.1
  show BitVec.ofNat 32 a &&& BitVec.ofNat 32 b = BitVec.ofNat 32 (a &&& b)
  apply BitVec.eq_of_getLsbD_eq
  intro i hi
  simp [hi]
theorem nx_xor (a b : Nat) : nI a ^^^ nI b = nI (a ^^^ b) := by
  apply Int32.toBitVec_inj.1
  show BitVec.ofNat 32 a ^^^ BitVec.ofNat 32 b = BitVec.ofNat 32 (a ^^^ b)
  apply BitVec.eq_of_getLsbD_eq
  intro i hi
  simp [hi]
theorem nx_cnt : ∀ j : Fin 32, (UInt32.ofNat j.val &&& Int32.toUInt32 31).toNat % 32 = j.val := by decide +kernel
theorem nx_ush {k j : Nat} (hk : k < 65536) (hj : j < 32) : ((nI k).toUInt32 >>> ((nI j).toUInt32 &&& Int32.toUInt32 31)).toInt32 = nI (k >>> j) := by
  have hs : k >>> j ≤ k := by
    rw [Nat.shiftRight_eq_div_pow]
    exact Nat.div_le_self _ _
  have e2 : UInt32.ofNat k >>> (UInt32.ofNat j &&& Int32.toUInt32 31) = UInt32.ofNat (k >>> j) := by
    apply UInt32.toNat_inj.1
    have h1 : (UInt32.ofNat k).toNat = k := Nat.mod_eq_of_lt (by omega)
    have h2 : (UInt32.ofNat (k >>> j)).toNat = k >>> j := Nat.mod_eq_of_lt (by omega)
    rw [UInt32.toNat_shiftRight, nx_cnt ⟨j, hj⟩, h1, h2]
  show (UInt32.ofNat k >>> (UInt32.ofNat j &&& Int32.toUInt32 31)).toInt32 = _
  rw [e2]
  rfl
theorem nx_bit {k j : Nat} (hk : k < 65536) (hj : j < 16) : (((nI k).toUInt32 >>> ((nI j).toUInt32 &&& Int32.toUInt32 31)).toInt32 &&& 1) = 0 ↔ k.testBit j = false := by
  rw [nx_ush hk (by omega)]
  show nI (k >>> j) &&& nI 1 = 0 ↔ _
  rw [nx_and, Nat.and_one_is_mod, ← nI_0, nI_eq (by omega) (by omega), Nat.testBit_eq_decide_div_mod_eq, Nat.shiftRight_eq_div_pow, decide_eq_false_iff_not]
  generalize k / 2 ^ j = z
  omega
theorem nx_mod (k : Nat) : nI k &&& 65535 = nI (k % 65536) := by
  show nI k &&& nI 65535 = _
  rw [nx_and, show (65535 : Nat) = 2 ^ 16 - 1 from rfl, Nat.and_two_pow_sub_one_eq_mod]
theorem nx_m16 {k : Nat} (h : k < 65536) : nI k &&& 65535 = nI k := by rw [nx_mod, Nat.mod_eq_of_lt h]
theorem nx_mask (x : Int32) : ∃ k, k < 65536 ∧ x &&& 65535 = nI k := by
  have e : x = nI x.toBitVec.toNat := by
    apply Int32.toBitVec_inj.1
    show x.toBitVec = BitVec.ofNat 32 x.toBitVec.toNat
    simp
  refine ⟨x.toBitVec.toNat % 65536, Nat.mod_lt _ (by omega), ?_⟩
  rw [← nx_mod, ← e]
/-! ===== Int32 as a set of bits: test, set ===== -/
def nf_M (m : Int32) : Nat := 4294967296 - m.toBitVec.toNat
theorem nf_sh : ∀ l, l < 32 → ((1 : Int32) <<< (nI l &&& 31)).toBitVec = BitVec.twoPow 32 l := by decide +kernel
theorem nf_sl : ∀ l, l < 32 → (((nI l).toUInt32 &&& Int32.toUInt32 31).toBitVec % 32).toNat = l := by decide +kernel
theorem nf_tp : ∀ l, l < 32 → BitVec.twoPow 32 l ≠ 0#32 := by decide +kernel
theorem nf_bit (m : Int32) (l : Nat) (hl : l < 32) : ((m.toUInt32 >>> ((nI l).toUInt32 &&& Int32.toUInt32 31)).toInt32 &&& 1) = 0 ↔ (m &&& ((1 : Int32) <<< (nI l &&& 31))) = 0 := by
  have e : ((m.toUInt32 >>> ((nI l).toUInt32 &&& Int32.toUInt32 31)).toInt32).toBitVec = m.toBitVec >>> l := by
    show m.toBitVec >>> (((nI l).toUInt32 &&& Int32.toUInt32 31).toBitVec % 32) = m.toBitVec >>> l
    rw [BitVec.ushiftRight_eq', nf_sl l hl]
  rw [← Int32.toBitVec_inj, ← Int32.toBitVec_inj, Int32.toBitVec_and, Int32.toBitVec_and, nf_sh l hl, e, BitVec.and_twoPow]
  show (m.toBitVec >>> l &&& 1#32) = 0#32 ↔ _ = 0#32
  rw [BitVec.and_one_eq_setWidth_ofBool_getLsbD, BitVec.getLsbD_ushiftRight, Nat.add_zero]
  cases hb : m.toBitVec.getLsbD l
  · exact ⟨fun _ => by simp, fun _ => by decide⟩
  · exact ⟨fun z => absurd z (by decide), fun z => absurd ((if_pos rfl).symm.trans z) (nf_tp l hl)⟩
theorem nf_gr (m k : Int32) (h : m &&& k = 0) (hk : k ≠ 0) : nf_M (m ||| k) < nf_M m := by
  have hm := m.toBitVec.isLt
  have hm' := (m ||| k).toBitVec.isLt
  have h1 : m.toBitVec.toNat ≤ (m ||| k).toBitVec.toNat := by
    rw [Int32.toBitVec_or, BitVec.toNat_or]
    exact Nat.left_le_or
  have h2 : m.toBitVec.toNat ≠ (m ||| k).toBitVec.toNat := by
    intro e
    have e2 : m = m ||| k := Int32.toBitVec_inj.mp (BitVec.eq_of_toNat_eq e)
    apply hk
    apply Int32.toBitVec_inj.mp
    show k.toBitVec = 0#32
    apply BitVec.eq_of_getLsbD_eq
    intro i hi
    have a : m.toBitVec.getLsbD i = (m.toBitVec.getLsbD i || k.toBitVec.getLsbD i) := by rw [← BitVec.getLsbD_or, ← Int32.toBitVec_or, ← e2]
    have b : (m.toBitVec.getLsbD i && k.toBitVec.getLsbD i) = false := by
      rw [← BitVec.getLsbD_and, ← Int32.toBitVec_and, h]
      exact BitVec.getLsbD_zero
    rw [BitVec.getLsbD_zero]
    revert a b
    cases m.toBitVec.getLsbD i <;> cases k.toBitVec.getLsbD i <;> simp
  unfold nf_M
  omega
/-! ===== a byte read unsigned ===== -/
theorem bp_b (x : Int32) : x.toInt8.toInt32 &&& 255 = x &&& 255 := by
  apply Int32.toBitVec_inj.mp
  rw [Int32.toBitVec_and, Int32.toBitVec_and, Int8.toBitVec_toInt32, Int32.toBitVec_toInt8]
  apply BitVec.eq_of_getLsbD_eq
  intro i hi
  rw [BitVec.getLsbD_and, BitVec.getLsbD_and]
  have hm : ∀ i < 32, 8 ≤ i → (255 : Int32).toBitVec.getLsbD i = false := by decide
  rcases Nat.lt_or_ge i 8 with z | z
  · rw [BitVec.getLsbD_signExtend, BitVec.getLsbD_signExtend, if_pos z, if_pos hi]
    simp only [z, hi, decide_true, Bool.true_and]
  · rw [hm i hi z]; simp
/-! ===== the char cast and 65535 ===== -/
theorem em_w (v : Int32) : ∃ w : Nat, w < 65536 ∧ (v.toUInt32 % 65536).toInt32 = nI w ∧ v &&& 65535 = nI w := by
  have hr := lw_u16_r v
  have h0 : (0 : Int32).toInt = 0 := by decide
  obtain ⟨w, h1, h2⟩ := nI_of (x := lw_u16 v) (by rw [Int32.lt_iff_toInt_lt]; omega)
  have h3 : (v.toUInt32 % 65536).toInt32 = nI w := h2
  rw [h2, nI_toInt h1] at hr
  exact ⟨w, by omega, h3, by rw [← lg_i2c_mask, ← lg_i2c_nf, h3]⟩
/-! ===== Int64 as a set of bits: test, set, clear ===== -/
theorem ts_nf {x : Bool} (h : ¬ x = false) : x = true := by cases x <;> first | rfl | exact absurd rfl h
theorem ts_nt {x : Bool} (h : ¬ x = true) : x = false := by cases x <;> first | rfl | exact absurd rfl h
theorem ts_bit {w : Int64} {s : UInt64} {j : Nat} (hj : j < 64) (hs : s.toNat = j) : ((w.toUInt64 >>> s).toInt64 &&& 1) = 0 ↔ w.toBitVec.getLsbD j = false := by
  have e : (w.toUInt64 >>> s).toInt64.toBitVec = w.toBitVec >>> j := by
    apply BitVec.eq_of_toNat_eq
    show (w.toUInt64 >>> s).toNat = _
    rw [UInt64.toNat_shiftRight, hs, Nat.mod_eq_of_lt hj, BitVec.toNat_ushiftRight]
    rfl
  rw [← Int64.toBitVec_inj, Int64.toBitVec_and, e]
  show w.toBitVec >>> j &&& 1#64 = 0#64 ↔ _
  constructor
  · intro h
    have t := congrArg (fun x => x.getLsbD 0) h
    simpa using t
  · intro h
    apply BitVec.eq_of_getLsbD_eq
    intro i hi
    cases i with
    | zero => simp [h]
    | succ i => simp
theorem ts_or {w m : Int64} {j : Nat} (hj : j < 64) (hm : m.toBitVec = BitVec.twoPow 64 j) : (w ||| m) = w ↔ w.toBitVec.getLsbD j = true := by
  rw [← Int64.toBitVec_inj, Int64.toBitVec_or, hm]
  constructor
  · intro h
    have t := congrArg (fun x => x.getLsbD j) h
    simp only [BitVec.getLsbD_or, BitVec.getLsbD_twoPow] at t
    simpa [hj] using t.symm
  · intro h
    apply BitVec.eq_of_getLsbD_eq
    intro i hi
    rw [BitVec.getLsbD_or, BitVec.getLsbD_twoPow]
    by_cases e : j = i
    · subst e; rw [h, Bool.true_or]
    · simp [e]
theorem ts_and {w m : Int64} {j : Nat} (hj : j < 64) (hm : m.toBitVec = BitVec.twoPow 64 j) : (w &&& (m ^^^ (-1))) = w ↔ w.toBitVec.getLsbD j = false := by
  have ha : (-1 : Int64).toBitVec = BitVec.allOnes 64 := by decide
  rw [← Int64.toBitVec_inj, Int64.toBitVec_and, Int64.toBitVec_xor, hm, ha]
  constructor
  · intro h
    have t := congrArg (fun x => x.getLsbD j) h
    simp only [BitVec.getLsbD_and, BitVec.getLsbD_xor, BitVec.getLsbD_twoPow, BitVec.getLsbD_allOnes] at t
    simpa [hj] using t.symm
  · intro h
    apply BitVec.eq_of_getLsbD_eq
    intro i hi
    rw [BitVec.getLsbD_and, BitVec.getLsbD_xor, BitVec.getLsbD_twoPow, BitVec.getLsbD_allOnes]
    by_cases e : j = i
    · subst e; rw [h, Bool.false_and]
    · simp [e, hi]
/-! ===== lN n to 2^64: shifts, and, or, masks, one bit ===== -/
theorem wb_tb (n : Nat) : (lN n).toBitVec = BitVec.ofNat 64 n := rfl
theorem wb_inj {a b : Int64} (h : a.toBitVec = b.toBitVec) : a = b := Int64.toBitVec_inj.mp h
theorem wb_tn {n : Nat} (h : n < 2 ^ 64) : (lN n).toBitVec.toNat = n := by rw [wb_tb, BitVec.toNat_ofNat, Nat.mod_eq_of_lt h]
theorem wb_of (x : Int64) : ∃ n, n < 2 ^ 64 ∧ x = lN n := ⟨x.toBitVec.toNat, x.toBitVec.isLt, wb_inj (by rw [wb_tb]; simp)⟩
theorem wb_of32 (x : Int32) : ∃ n, n < 2 ^ 32 ∧ x = nI n := ⟨x.toBitVec.toNat, x.toBitVec.isLt, Int32.toBitVec_inj.mp (by show _ = BitVec.ofNat 32 _; simp)⟩
theorem wb_c : ∀ k, k < 64 → ((nI k).toInt64 &&& 63) = lN k := by decide +kernel
theorem wb_cu : ∀ k, k < 64 → ((nI k).toInt64.toUInt64 &&& Int64.toUInt64 63) = UInt64.ofNat k := by decide +kernel
theorem wb_sm : ∀ k, k < 64 → (BitVec.ofNat 64 k).smod 64 = BitVec.ofNat 64 k := by decide +kernel
theorem wb_pw {a b : Nat} (h : a ≤ b) : 2 ^ b = 2 ^ a * 2 ^ (b - a) := by rw [← Nat.pow_add]; congr 1; omega
theorem wb_lt2 {a b : Nat} (h : a < b) : 2 ^ a < 2 ^ b := Nat.pow_lt_pow_right (by decide) h
theorem wb_mod (n : Nat) : lN n = lN (n % 2 ^ 64) := wb_inj (by rw [wb_tb, wb_tb]; apply BitVec.eq_of_toNat_eq; rw [BitVec.toNat_ofNat, BitVec.toNat_ofNat, Nat.mod_mod])
theorem wb_shr {n k : Nat} (hn : n < 2 ^ 64) (hk : k < 64) : ((lN n).toUInt64 >>> ((nI k).toInt64.toUInt64 &&& Int64.toUInt64 63)).toInt64 = lN (n / 2 ^ k) := by
  rw [wb_cu k hk]
  apply wb_inj
  apply BitVec.eq_of_toNat_eq
  show ((lN n).toUInt64 >>> UInt64.ofNat k).toNat = (BitVec.ofNat 64 _).toNat
  have h1 : (UInt64.ofNat k).toNat = k := by
    show (BitVec.ofNat 64 k).toNat = k
    rw [BitVec.toNat_ofNat, Nat.mod_eq_of_lt (by omega)]
  have h2 : (lN n).toUInt64.toNat = n := wb_tn hn
  rw [UInt64.toNat_shiftRight, h1, h2, Nat.mod_eq_of_lt hk, Nat.shiftRight_eq_div_pow, BitVec.toNat_ofNat, Nat.mod_eq_of_lt (Nat.lt_of_le_of_lt (Nat.div_le_self _ _) hn)]
theorem wb_shl (n : Nat) {k : Nat} (hk : k < 64) : lN n <<< ((nI k).toInt64 &&& 63) = lN (n * 2 ^ k) := by
  rw [wb_c k hk]
  apply wb_inj
  rw [Int64.toBitVec_shiftLeft, wb_tb, wb_tb, wb_tb, wb_sm k hk]
  apply BitVec.eq_of_toNat_eq
  rw [BitVec.shiftLeft_eq', BitVec.toNat_shiftLeft, BitVec.toNat_ofNat, BitVec.toNat_ofNat, BitVec.toNat_ofNat, Nat.mod_eq_of_lt (show k < 2 ^ 64 by omega), Nat.shiftLeft_eq, Nat.mul_mod, Nat.mod_mod, ← Nat.mul_mod]
theorem wb_and {a b : Nat} (ha : a < 2 ^ 64) (hb : b < 2 ^ 64) : lN a &&& lN b = lN (a &&& b) := by
  apply wb_inj
  rw [Int64.toBitVec_and, wb_tb, wb_tb, wb_tb]
  apply BitVec.eq_of_toNat_eq
  rw [BitVec.toNat_and, BitVec.toNat_ofNat, BitVec.toNat_ofNat, BitVec.toNat_ofNat, Nat.mod_eq_of_lt ha, Nat.mod_eq_of_lt hb, Nat.mod_eq_of_lt (Nat.and_lt_two_pow _ hb)]
theorem wb_or {a b : Nat} (ha : a < 2 ^ 64) (hb : b < 2 ^ 64) : lN a ||| lN b = lN (a ||| b) := by
  apply wb_inj
  rw [Int64.toBitVec_or, wb_tb, wb_tb, wb_tb]
  apply BitVec.eq_of_toNat_eq
  rw [BitVec.toNat_or, BitVec.toNat_ofNat, BitVec.toNat_ofNat, BitVec.toNat_ofNat, Nat.mod_eq_of_lt ha, Nat.mod_eq_of_lt hb, Nat.mod_eq_of_lt (Nat.or_lt_two_pow ha hb)]
theorem wb_mask {n k : Nat} (hn : n < 2 ^ 64) (hk : k < 64) : lN n &&& lN (2 ^ k - 1) = lN (n % 2 ^ k) := by
  rw [wb_and hn (by have := wb_lt2 hk; omega), Nat.and_two_pow_sub_one_eq_mod]
theorem wb_a1 {n : Nat} (hn : n < 2 ^ 64) : lN n &&& 1 = lN (n % 2) := wb_mask (k := 1) hn (by decide)
theorem wb_bit {n k : Nat} (hn : n < 2 ^ 64) (hk : k < 64) : ((lN n).toUInt64 >>> ((nI k).toInt64.toUInt64 &&& Int64.toUInt64 63)).toInt64 &&& 1 = lN (n / 2 ^ k % 2) := by
  rw [wb_shr hn hk, wb_a1 (Nat.lt_of_le_of_lt (Nat.div_le_self _ _) hn)]
theorem wb_xor {q k : Nat} (hk : k < 63) (h : 2 ^ k ≤ q) (h2 : q < 2 ^ (k + 1)) : lN q ^^^ lN (2 ^ k) = lN (q - 2 ^ k) := by
  obtain ⟨r, rfl⟩ : ∃ r, q = 2 ^ k + r := ⟨q - 2 ^ k, by omega⟩
  have hr : r < 2 ^ k := by rw [Nat.pow_succ] at h2; omega
  have hx : (2 ^ k + r) ^^^ 2 ^ k = r := by
    apply Nat.eq_of_testBit_eq
    intro i
    rw [Nat.testBit_xor, Nat.testBit_two_pow]
    rcases Nat.lt_trichotomy i k with h | h | h
    · rw [Nat.testBit_two_pow_add_gt h]
      simp [show ¬ k = i by omega]
    · subst h
      rw [Nat.testBit_two_pow_add_eq]
      simp
    · have a1 : 2 ^ (k + 1) ≤ 2 ^ i := Nat.pow_le_pow_right (by decide) h
      rw [Nat.testBit_lt_two_pow (show 2 ^ k + r < 2 ^ i by omega), Nat.testBit_lt_two_pow (show r < 2 ^ i by omega)]
      simp [show ¬ k = i by omega]
  have b1 := wb_lt2 (show k + 1 < 64 by omega)
  have b2 := wb_lt2 (show k < 64 by omega)
  apply wb_inj
  rw [Int64.toBitVec_xor, wb_tb, wb_tb, wb_tb]
  apply BitVec.eq_of_toNat_eq
  rw [BitVec.toNat_xor, BitVec.toNat_ofNat, BitVec.toNat_ofNat, BitVec.toNat_ofNat, Nat.mod_eq_of_lt (by omega : 2 ^ k + r < 2 ^ 64), Nat.mod_eq_of_lt b2, hx, Nat.add_sub_cancel_left, Nat.mod_eq_of_lt (by omega)]
/-! ===== lN: masks, 'or' of parts that don't overlap is a sum ===== -/
theorem u_tn {n : Nat} (h : n < 2 ^ 64) : (UInt64.ofNat n).toNat = n := Nat.mod_eq_of_lt h
theorem g_and {a b c : Nat} (ha : a < 2 ^ 64) (hb : b < 2 ^ 64) (hc : a &&& b = c) : lN a &&& lN b = lN c := by
  subst hc
  have h : UInt64.ofNat a &&& UInt64.ofNat b = UInt64.ofNat (a &&& b) := UInt64.toNat_inj.mp (by rw [UInt64.toNat_and, u_tn ha, u_tn hb, u_tn (Nat.and_lt_two_pow a hb)])
  have h2 := congrArg UInt64.toInt64 h
  exact h2
theorem g_and1 {a : Nat} (ha : a < 2 ^ 64) : lN a &&& 1 = lN (a % 2) := g_and (b := 1) ha (by decide) (Nat.and_two_pow_sub_one_eq_mod a 1)
theorem g_mask {a s p : Nat} (hp : 2 ^ s = p) (hs : s < 64) (ha : a < 2 ^ 64) : lN a &&& lN (p - 1) = lN (a % p) := by
  subst hp
  have := Nat.pow_lt_pow_right (show 1 < 2 by decide) hs
  exact g_and ha (by omega) (Nat.and_two_pow_sub_one_eq_mod a s)
theorem g_or {k p a b : Nat} (hp : 2 ^ k = p) (ha : a < p) (h : b * p + a < 2 ^ 64) : lN (b * p) ||| lN a = lN (b * p + a) := by
  subst hp
  have h1 : b * 2 ^ k ||| a = b * 2 ^ k + a := by rw [← Nat.shiftLeft_eq, Nat.shiftLeft_add_eq_or_of_lt ha]
  have h3 : UInt64.ofNat (b * 2 ^ k) ||| UInt64.ofNat a = UInt64.ofNat (b * 2 ^ k + a) := UInt64.toNat_inj.mp (by rw [UInt64.toNat_or, u_tn (by omega), u_tn (by omega), u_tn h, h1])
  have h2 := congrArg UInt64.toInt64 h3
  exact h2
theorem g_or' {k p a b : Nat} (hp : 2 ^ k = p) (ha : a < p) (h : a + b * p < 2 ^ 64) : lN a ||| lN (b * p) = lN (a + b * p) := by
  rw [Int64.or_comm, g_or hp ha (by omega), Nat.add_comm]
theorem g_ushr {a k p : Nat} {y : UInt64} (hy : y = UInt64.ofNat k) (hk : k < 64) (hp : 2 ^ k = p) (ha : a < 2 ^ 64) : ((lN a).toUInt64 >>> y).toInt64 = lN (a / p) := by
  subst hy hp
  have h : UInt64.ofNat a >>> UInt64.ofNat k = UInt64.ofNat (a / 2 ^ k) := UInt64.toNat_inj.mp (by rw [UInt64.toNat_shiftRight, u_tn ha, u_tn (by omega), u_tn (Nat.lt_of_le_of_lt (Nat.div_le_self _ _) ha), Nat.mod_eq_of_lt hk, Nat.shiftRight_eq_div_pow])
  have h2 := congrArg UInt64.toInt64 h
  exact h2
theorem g_shl {a k p : Nat} {y : Int64} (hy : y.toBitVec.smod 64 = BitVec.ofNat 64 k) (hk : k < 64) (hp : 2 ^ k = p) (ha : a < 2 ^ 64) : lN a <<< y = lN (a * p) := by
  subst hp
  apply Int64.toBitVec_inj.mp
  rw [Int64.toBitVec_shiftLeft, hy]
  apply BitVec.eq_of_toNat_eq
  have hb : (lN a).toBitVec.toNat = a := Nat.mod_eq_of_lt ha
  have hk' : (BitVec.ofNat 64 k).toNat = k := Nat.mod_eq_of_lt (by omega)
  have h : ((lN a).toBitVec <<< BitVec.ofNat 64 k).toNat = (a * 2 ^ k) % 2 ^ 64 := by simp only [BitVec.shiftLeft_eq', BitVec.toNat_shiftLeft, hb, hk', Nat.shiftLeft_eq]
  exact h
/-! ===== lN to 2^62 under >> and >>> ===== -/
theorem pf_lI {a : Nat} (h : a < 2 ^ 63) : (lN a).toInt = (a : Int) := lg_ofNat_toInt h
theorem pf_shr {a d : Nat} {D : Int64} (hD : (D.toBitVec.smod 64).toNat = d) (h : a < 2 ^ 62) : lN a >>> D = lN (a / 2 ^ d) := by
  have hd : a / 2 ^ d ≤ a := Nat.div_le_self _ _
  apply Int64.toInt_inj.mp
  have e : (lN a >>> D).toInt = (lN a).toInt >>> d := by
    rw [← hD]
    exact BitVec.toInt_sshiftRight ..
  rw [e, Int.shiftRight_eq_div_pow, pf_lI (by omega), pf_lI (by omega)]
  rfl
theorem pf_ushr {a d : Nat} {D : UInt64} (hD : D.toNat % 64 = d) (h : a < 2 ^ 62) : ((lN a).toUInt64 >>> D).toInt64 = lN (a / 2 ^ d) := by
  have hd : a / 2 ^ d ≤ a := Nat.div_le_self _ _
  have e : (lN a).toUInt64 >>> D = UInt64.ofNat (a / 2 ^ d) := UInt64.toNat_inj.mp (by
    rw [UInt64.toNat_shiftRight, hD, Nat.shiftRight_eq_div_pow, UInt64.toNat_ofNat']
    show (UInt64.ofNat a).toNat / 2 ^ d = _
    rw [UInt64.toNat_ofNat', Nat.mod_eq_of_lt (by omega), Nat.mod_eq_of_lt (by omega)])
  rw [e]
  rfl
theorem pf_andw (x : Int64) : ∃ m, m < 2 ^ 32 ∧ x &&& 4294967295 = lN m := ⟨x.toBitVec.toNat % 2 ^ 32, Nat.mod_lt _ (by decide), Int64.toBitVec_inj.mp (BitVec.eq_of_toNat_eq (by
  show (x.toBitVec &&& 4294967295#64).toNat = (BitVec.ofNat 64 (x.toBitVec.toNat % 2 ^ 32)).toNat
  rw [BitVec.toNat_and, show (4294967295#64).toNat = 2 ^ 32 - 1 from by decide, Nat.and_two_pow_sub_one_eq_mod, BitVec.toNat_ofNat]
  omega))⟩
/-! ===== Int64 as an unsigned number: uN x ===== -/
def uN (x : Int64) : Nat := x.toUInt64.toNat
theorem uN_lt (x : Int64) : uN x < 18446744073709551616 := x.toUInt64.toNat_lt
theorem uN_inj {x y : Int64} (h : uN x = uN y) : x = y := congrArg UInt64.toInt64 (UInt64.toNat_inj.mp h)
theorem uN_add (x y : Int64) : uN (x + y) = (uN x + uN y) % 18446744073709551616 := by
  show (x.toUInt64 + y.toUInt64).toNat = _
  exact UInt64.toNat_add _ _
theorem uN_mul (x y : Int64) : uN (x * y) = (uN x * uN y) % 18446744073709551616 := by
  show (x.toUInt64 * y.toUInt64).toNat = _
  exact UInt64.toNat_mul _ _
theorem uN_shl (x : Int64) : uN (x <<< ((1 : Int32).toInt64 &&& 63)) = (2 * uN x) % 18446744073709551616 := by
  have h : (((1 : Int32).toInt64 &&& 63).toBitVec.smod 64).toNat = 1 := by decide
  show (x.toBitVec <<< (((1 : Int32).toInt64 &&& 63).toBitVec.smod 64).toNat).toNat = _
  rw [h, BitVec.toNat_shiftLeft, Nat.shiftLeft_eq, Nat.mul_comm]
  rfl
theorem uN_shr (x : Int64) (s : UInt64) : uN (x.toUInt64 >>> s).toInt64 = uN x / 2 ^ (s.toNat % 64) := by
  show (x.toUInt64 >>> s).toNat = _
  rw [UInt64.toNat_shiftRight, Nat.shiftRight_eq_div_pow]
  rfl
theorem uN_s32 (x : Int64) : uN (x.toUInt64 >>> ((32 : Int32).toInt64.toUInt64 &&& Int64.toUInt64 63)).toInt64 = uN x / 4294967296 := by
  have h : ((32 : Int32).toInt64.toUInt64 &&& Int64.toUInt64 63).toNat % 64 = 32 := by decide
  rw [uN_shr, h]
theorem uN_s63 (x : Int64) : uN (x.toUInt64 >>> ((63 : Int32).toInt64.toUInt64 &&& Int64.toUInt64 63)).toInt64 = uN x / 9223372036854775808 := by
  have h : ((63 : Int32).toInt64.toUInt64 &&& Int64.toUInt64 63).toNat % 64 = 63 := by decide
  rw [uN_shr, h]
theorem uN_lo (x : Int64) : uN (x &&& 4294967295) = uN x % 4294967296 := by
  show (x.toUInt64 &&& Int64.toUInt64 4294967295).toNat = _
  rw [UInt64.toNat_and]
  exact Nat.and_two_pow_sub_one_eq_mod _ 32
theorem uN_bit (x : Int64) : (x &&& 1) = 0 ↔ uN x % 2 = 0 := by
  have h : uN (x &&& 1) = uN x % 2 := by
    show (x.toUInt64 &&& Int64.toUInt64 1).toNat = _
    rw [UInt64.toNat_and]
    exact Nat.and_two_pow_sub_one_eq_mod _ 1
  rw [← h]
  exact ⟨fun z => by rw [z]; rfl, fun z => uN_inj (z.trans rfl)⟩
theorem uN_or {x y : Int64} (hy : uN y < 2) : uN ((x <<< ((1 : Int32).toInt64 &&& 63)) ||| y) = (2 * uN x) % 18446744073709551616 + uN y := by
  have h1 : uN ((x <<< ((1 : Int32).toInt64 &&& 63)) ||| y) = uN (x <<< ((1 : Int32).toInt64 &&& 63)) ||| uN y := UInt64.toNat_or _ _
  have h2 : (2 * uN x) % 18446744073709551616 = 2 ^ 1 * (uN x % 9223372036854775808) := by omega
  rw [h1, uN_shl, h2]
  exact (Nat.two_pow_add_eq_or_of_lt (i := 1) hy _).symm
theorem nat_xor {a : Nat} (h : a < 18446744073709551616) : a ^^^ 2 ^ 63 = (a + 9223372036854775808) % 18446744073709551616 := by
  have h1 : (a ^^^ 2 ^ 63) % 2 ^ 63 = a % 2 ^ 63 := by rw [Nat.xor_mod_two_pow, Nat.mod_self, Nat.xor_zero]
  have h2 : (a ^^^ 2 ^ 63) / 2 ^ 63 = (a / 2 ^ 63) ^^^ 1 := by rw [Nat.xor_div_two_pow, Nat.div_self (Nat.two_pow_pos 63)]
  have h3 : a / 2 ^ 63 = 0 ∨ a / 2 ^ 63 = 1 := by omega
  generalize a ^^^ 2 ^ 63 = t at h1 h2
  rcases h3 with h3 | h3
  · rw [h3] at h2
    have h2 : t / 2 ^ 63 = 1 := h2
    omega
  · rw [h3] at h2
    have h2 : t / 2 ^ 63 = 0 := h2
    omega
theorem uN_xor (x : Int64) : uN (x ^^^ (-9223372036854775808)) = (uN x + 9223372036854775808) % 18446744073709551616 := by
  rw [← nat_xor (uN_lt x)]
  exact UInt64.toNat_xor _ _
theorem uN_int (x : Int64) : x.toInt = if 2 * uN x < 18446744073709551616 then (uN x : Int) else (uN x : Int) - 18446744073709551616 := BitVec.toInt_eq_toNat_cond _
theorem uN_le (x y : Int64) : (x ^^^ (-9223372036854775808)) ≤ (y ^^^ (-9223372036854775808)) ↔ uN x ≤ uN y := by
  have hx := uN_lt x
  have hy := uN_lt y
  rw [Int64.le_iff_toInt_le, uN_int, uN_int, uN_xor, uN_xor]
  omega
theorem uN_sk (x : Int64) {k : Nat} (hk : k < 64) : uN (x.toUInt64 >>> ((nI k).toInt64.toUInt64 &&& Int64.toUInt64 63)).toInt64 = uN x / 2 ^ k := by
  have h : ((nI k).toInt64.toUInt64 &&& Int64.toUInt64 63).toNat % 64 = k := by
    rw [nI_l (by omega), UInt64.toNat_and]
    have e : (lN k).toUInt64.toNat = k % 2 ^ 64 := rfl
    have e2 : (Int64.toUInt64 63).toNat = 2 ^ 6 - 1 := by decide
    rw [e, e2, Nat.and_two_pow_sub_one_eq_mod]
    omega
  rw [uN_shr, h]
/-! ===== unsigned comparison by xor with the least ===== -/
theorem lN_bv (n : Nat) : (lN n).toBitVec = BitVec.ofNat 64 n := rfl
theorem lN_nat {n : Nat} (h : n < 2 ^ 64) : (lN n).toBitVec.toNat = n := by rw [lN_bv, BitVec.toNat_ofNat]; exact Nat.mod_eq_of_lt h
theorem lN_xor (a b : Nat) : lN a ^^^ lN b = lN (a ^^^ b) := by
  apply Int64.toBitVec_inj.mp; rw [Int64.toBitVec_xor, lN_bv, lN_bv, lN_bv]; apply BitVec.eq_of_getLsbD_eq; intro i hi; simp [BitVec.getLsbD_ofNat, Nat.testBit_xor, hi]
theorem lN_ti {m : Nat} (h : m < 2 ^ 64) : (lN m).toInt = if m < 2 ^ 63 then (m : Int) else (m : Int) - 2 ^ 64 := by
  have c := BitVec.toInt_eq_toNat_cond (lN m).toBitVec
  rw [lN_nat h] at c
  show (lN m).toBitVec.toInt = _
  rw [c]
  split <;> split <;> omega
theorem xor63 {x : Nat} (h : x < 2 ^ 63) : x ^^^ 2 ^ 63 = 2 ^ 63 + x := by
  apply Nat.eq_of_testBit_eq
  intro i
  rw [Nat.testBit_xor, Nat.testBit_two_pow]
  rcases Nat.lt_trichotomy i 63 with z | z | z
  · rw [Nat.testBit_two_pow_add_gt z, decide_eq_false (by omega)]; simp
  · subst z; rw [Nat.testBit_two_pow_add_eq]; simp
  · have hp : 2 ^ 64 ≤ 2 ^ i := Nat.pow_le_pow_right (by decide) z
    rw [Nat.testBit_lt_two_pow (show x < 2 ^ i by omega), Nat.testBit_lt_two_pow (show 2 ^ 63 + x < 2 ^ i by omega), decide_eq_false (by omega)]; rfl
theorem xorS {a : Nat} (h : a < 2 ^ 64) : (lN a ^^^ (-9223372036854775808)).toInt = (a : Int) - 2 ^ 63 := by
  rw [show (-9223372036854775808 : Int64) = lN (2 ^ 63) from by decide +kernel, lN_xor]
  rcases Nat.lt_or_ge a (2 ^ 63) with z | z
  · rw [xor63 z, lN_ti (by omega), if_neg (by omega)]; omega
  · obtain ⟨x, rfl⟩ : ∃ x, a = 2 ^ 63 + x := ⟨a - 2 ^ 63, by omega⟩
    rw [← xor63 (by omega), Nat.xor_assoc, Nat.xor_self, Nat.xor_zero, lN_ti (by omega), if_pos (by omega), xor63 (by omega)]; omega
theorem ultL {a b : Nat} (ha : a < 2 ^ 64) (hb : b < 2 ^ 64) : ((lN b ^^^ (-9223372036854775808)) ≤ (lN a ^^^ (-9223372036854775808))) ↔ b ≤ a := by
  rw [Int64.le_iff_toInt_le, xorS ha, xorS hb]; omega
/-! ===== Int64 masks of n low bits ===== -/
theorem cr_bits (W U M : BitVec 64) : ((W &&& U) &&& (U &&& (M ^^^ BitVec.allOnes 64))) = 0#64 ↔ (W &&& U) &&& M = W &&& U := by
  constructor
  · intro h
    apply BitVec.eq_of_getLsbD_eq
    intro i hi
    have e := congrArg (fun x => BitVec.getLsbD x i) h
    simp only [BitVec.getLsbD_and, BitVec.getLsbD_xor, BitVec.getLsbD_allOnes, BitVec.getLsbD_zero, hi, decide_true] at e ⊢
    revert e
    cases W.getLsbD i <;> cases U.getLsbD i <;> cases M.getLsbD i <;> decide
  · intro h
    apply BitVec.eq_of_getLsbD_eq
    intro i hi
    have e := congrArg (fun x => BitVec.getLsbD x i) h
    simp only [BitVec.getLsbD_and, BitVec.getLsbD_xor, BitVec.getLsbD_allOnes, BitVec.getLsbD_zero, hi, decide_true] at e ⊢
    revert e
    cases W.getLsbD i <;> cases U.getLsbD i <;> cases M.getLsbD i <;> decide
theorem cr_mask (w U m : Int64) (n : Nat) (hm : m.toBitVec.toNat = 2 ^ n - 1) : ((w &&& U) &&& (U &&& (m ^^^ (-1)))) = 0 ↔ (w &&& U).toBitVec.toNat < 2 ^ n := by
  have e0 : (-1 : Int64).toBitVec = BitVec.allOnes 64 := by decide
  have z0 : (0 : Int64).toBitVec = 0#64 := by decide
  rw [← Int64.toBitVec_inj, z0, Int64.toBitVec_and, Int64.toBitVec_and, Int64.toBitVec_and, Int64.toBitVec_xor, e0, cr_bits]
  generalize w.toBitVec &&& U.toBitVec = T
  rw [← BitVec.toNat_inj, BitVec.toNat_and, hm, Nat.and_two_pow_sub_one_eq_mod]
  constructor
  · intro h
    have t := Nat.mod_lt T.toNat (Nat.two_pow_pos n)
    rw [h] at t
    exact t
  · exact Nat.mod_eq_of_lt
theorem cr_shr (t : Int64) (x : UInt64) (n : Nat) (hx : x.toNat % 64 = n) : (t.toUInt64 >>> x).toInt64 = 0 ↔ t.toBitVec.toNat < 2 ^ n := by
  rw [← Int64.toBitVec_inj, ← BitVec.toNat_inj]
  show (t.toUInt64 >>> x).toNat = 0 ↔ t.toUInt64.toNat < 2 ^ n
  rw [UInt64.toNat_shiftRight, hx, Nat.shiftRight_eq_div_pow]
  constructor
  · intro h
    have d : t.toUInt64.toNat / 2 ^ n < 1 := by
      rw [h]
      decide
    have e := (Nat.div_lt_iff_lt_mul (Nat.two_pow_pos n)).mp d
    rw [Nat.one_mul] at e
    exact e
  · exact Nat.div_eq_of_lt
theorem cr_amt (s : Int64) : ∃ n, n < 64 ∧ s &&& 63 = lN n ∧ (s.toUInt64 &&& Int64.toUInt64 63).toNat % 64 = n := by
  have e : (s.toUInt64 &&& Int64.toUInt64 63).toNat = s.toUInt64.toNat % 2 ^ 6 := by
    rw [UInt64.toNat_and, show (Int64.toUInt64 63).toNat = 2 ^ 6 - 1 from by decide, Nat.and_two_pow_sub_one_eq_mod]
  refine ⟨s.toUInt64.toNat % 2 ^ 6, by omega, ?_, by omega⟩
  rw [← Int64.toBitVec_inj, ← BitVec.toNat_inj]
  show (s.toUInt64 &&& Int64.toUInt64 63).toNat = (BitVec.ofNat 64 (s.toUInt64.toNat % 2 ^ 6)).toNat
  rw [e, BitVec.toNat_ofNat]
  omega
end
section
/-! arrays of naturals -/
def na_F (T : Nat → Nat) : Nat → Int32 := fun k => nI (T k)
def na_u (T : Nat → Nat) (k v : Nat) : Nat → Nat := fun j => if j = k then v else T j
theorem na_at (T : Nat → Nat) (k : Nat) : na_F T k = nI (T k) := rfl
theorem na_us (T : Nat → Nat) (k v : Nat) : na_u T k v k = v := if_pos rfl
theorem na_un {T : Nat → Nat} {k v j : Nat} (h : j ≠ k) : na_u T k v j = T j := if_neg h
theorem na_upd (T : Nat → Nat) (k v : Nat) : upd (na_F T) k (nI v) = na_F (na_u T k v) := by
  funext j
  unfold upd na_F na_u
  by_cases h : j = k
  · rw [if_pos h, if_pos h]
  · rw [if_neg h, if_neg h]
theorem na_0 : (fun _ => 0 : Nat → Int32) = na_F (fun _ => 0) := rfl
/-! texts as lists of tokens -/
def tx_t (T : Nat → Nat) : Nat → Nat → List Nat
  | _, 0 => []
  | k, n + 1 => T k :: tx_t T (k + 1) n
theorem tx_len (T : Nat → Nat) : ∀ n k, (tx_t T k n).length = n := by
  intro n
  induction n with
  | zero => intro k; rfl
  | succ n ih =>
    intro k
    show (tx_t T (k + 1) n).length + 1 = n + 1
    rw [ih]
theorem tx_app (T : Nat → Nat) : ∀ n k m, tx_t T k (n + m) = tx_t T k n ++ tx_t T (k + n) m := by
  intro n
  induction n with
  | zero =>
    intro k m
    rw [Nat.zero_add]
    rfl
  | succ n ih =>
    intro k m
    rw [show n + 1 + m = (n + m) + 1 by omega]
    show T k :: tx_t T (k + 1) (n + m) = T k :: (tx_t T (k + 1) n ++ tx_t T (k + (n + 1)) m)
    rw [ih, show k + 1 + n = k + (n + 1) by omega]
theorem tx_eq {T T' : Nat → Nat} : ∀ n k k', (tx_t T k n = tx_t T' k' n ↔ ∀ i, i < n → T (k + i) = T' (k' + i)) := by
  intro n
  induction n with
  | zero =>
    intro k k'
    exact ⟨fun _ i hi => absurd hi (Nat.not_lt_zero i), fun _ => rfl⟩
  | succ n ih =>
    intro k k'
    show (T k :: tx_t T (k + 1) n = T' k' :: tx_t T' (k' + 1) n) ↔ _
    rw [List.cons.injEq, ih]
    constructor
    · rintro ⟨h0, h⟩ i hi
      cases i with
      | zero => exact h0
      | succ i =>
        have := h i (by omega)
        rw [show k + (i + 1) = k + 1 + i by omega, show k' + (i + 1) = k' + 1 + i by omega]
        exact this
    · intro h
      refine ⟨h 0 (by omega), fun i hi => ?_⟩
      have := h (i + 1) (by omega)
      rw [show k + (i + 1) = k + 1 + i by omega, show k' + (i + 1) = k' + 1 + i by omega] at this
      exact this
theorem tx_congr {T T' : Nat → Nat} {k k' n : Nat} (h : ∀ i, i < n → T (k + i) = T' (k' + i)) : tx_t T k n = tx_t T' k' n := (tx_eq n k k').mpr h
theorem tx_cut {T : Nat → Nat} {k n : Nat} {l1 l2 : List Nat} (h : tx_t T k n = l1 ++ l2) : n = l1.length + l2.length ∧ l1 = tx_t T k l1.length ∧ l2 = tx_t T (k + l1.length) l2.length := by
  have hn : n = l1.length + l2.length := by rw [← List.length_append, ← h, tx_len]
  have h2 : tx_t T k (l1.length + l2.length) = l1 ++ l2 := by rw [← hn]; exact h
  rw [tx_app] at h2
  have := List.append_inj h2 (by rw [tx_len])
  exact ⟨hn, this.1.symm, this.2.symm⟩
theorem tx_pre {T T' : Nat → Nat} {k k' n m : Nat} (h : tx_t T k n = tx_t T' k' n) (hm : m ≤ n) : tx_t T k m = tx_t T' k' m :=
  tx_congr fun i hi => (tx_eq n k k').mp h i (by omega)
theorem tx_mid {T T' : Nat → Nat} {k k' n j m : Nat} (h : tx_t T k n = tx_t T' k' n) (hm : j + m ≤ n) : tx_t T (k + j) m = tx_t T' (k' + j) m :=
  tx_congr fun i hi => by
    have := (tx_eq n k k').mp h (j + i) (by omega)
    rw [show k + j + i = k + (j + i) by omega, show k' + j + i = k' + (j + i) by omega]
    exact this
/-- a text read from m missing terms to m' missing ones -/
def tx_M (a : Nat → Nat) : List Nat → Nat → Nat → Prop
  | [], m, m' => m = m'
  | t :: l, m, m' => ∃ m0, m = m0 + 1 ∧ tx_M a l (m0 + a t) m'
def tx_T (a : Nat → Nat) (l : List Nat) : Prop := tx_M a l 1 0
theorem tx_M_app {a : Nat → Nat} : ∀ l1 l2 m m', tx_M a (l1 ++ l2) m m' ↔ ∃ m1, tx_M a l1 m m1 ∧ tx_M a l2 m1 m' := by
  intro l1
  induction l1 with
  | nil =>
    intro l2 m m'
    exact ⟨fun h => ⟨m, rfl, h⟩, fun ⟨m1, e, h⟩ => by cases e; exact h⟩
  | cons t l ih =>
    intro l2 m m'
    constructor
    · rintro ⟨m0, e, h⟩
      obtain ⟨m1, h1, h2⟩ := (ih l2 _ _).mp h
      exact ⟨m1, ⟨m0, e, h1⟩, h2⟩
    · rintro ⟨m1, ⟨m0, e, h1⟩, h2⟩
      exact ⟨m0, e, (ih l2 _ _).mpr ⟨m1, h1, h2⟩⟩
theorem tx_M_add {a : Nat → Nat} : ∀ l m m' c, tx_M a l m m' → tx_M a l (m + c) (m' + c) := by
  intro l
  induction l with
  | nil =>
    intro m m' c h
    exact congrArg (· + c) h
  | cons t l ih =>
    rintro m m' c ⟨m0, e, h⟩
    refine ⟨m0 + c, by omega, ?_⟩
    have := ih _ _ c h
    rw [show m0 + a t + c = m0 + c + a t by omega] at this
    exact this
theorem tx_M_fun {a : Nat → Nat} : ∀ l m m1 m2, tx_M a l m m1 → tx_M a l m m2 → m1 = m2 := by
  intro l
  induction l with
  | nil => intro m m1 m2 h1 h2; exact Eq.trans (Eq.symm h1) h2
  | cons t l ih =>
    rintro m m1 m2 ⟨a0, e0, h0⟩ ⟨b0, e1, h1⟩
    have : a0 = b0 := by omega
    subst this
    exact ih _ _ _ h0 h1
theorem tx_M_split {a : Nat → Nat} : ∀ l m1 m2, tx_M a l (m1 + m2) 0 → ∃ l1 l2, l = l1 ++ l2 ∧ tx_M a l1 m1 0 ∧ tx_M a l2 m2 0 := by
  intro l
  induction l with
  | nil =>
    intro m1 m2 h
    have h' : m1 + m2 = 0 := h
    exact ⟨[], [], rfl, show m1 = 0 by omega, show m2 = 0 by omega⟩
  | cons t l ih =>
    intro m1 m2 h
    cases m1 with
    | zero =>
      rw [Nat.zero_add] at h
      exact ⟨[], t :: l, rfl, rfl, h⟩
    | succ m1 =>
      obtain ⟨m0, e, h⟩ := h
      have e' : m0 + a t = (m1 + a t) + m2 := by omega
      rw [e'] at h
      obtain ⟨l1, l2, el, h1, h2⟩ := ih _ _ h
      exact ⟨t :: l1, l2, by rw [el]; rfl, ⟨m1, rfl, h1⟩, h2⟩
theorem tx_M_le {a : Nat → Nat} : ∀ l m, tx_M a l m 0 → m ≤ l.length := by
  intro l
  induction l with
  | nil => intro m h; have h' : m = 0 := h; omega
  | cons t l ih =>
    rintro m ⟨m0, e, h⟩
    have := ih _ h
    rw [List.length_cons]
    omega
theorem tx_M_zero {a : Nat → Nat} {l : List Nat} {m : Nat} (h : tx_M a l 0 m) : l = [] := by
  cases l with
  | nil => rfl
  | cons t l =>
    obtain ⟨m0, e, _⟩ := h
    omega
theorem tx_T_pos {a : Nat → Nat} {l : List Nat} (h : tx_T a l) : 0 < l.length := by
  have := tx_M_le _ _ h
  omega
theorem tx_M_congr {a b : Nat → Nat} : ∀ l m m', (∀ t, t ∈ l → a t = b t) → tx_M a l m m' → tx_M b l m m' := by
  intro l
  induction l with
  | nil => intro m m' _ h; exact h
  | cons t l ih =>
    rintro m m' hab ⟨m0, e, h⟩
    refine ⟨m0, e, ?_⟩
    rw [← hab t (List.mem_cons_self ..)]
    exact ih _ _ (fun s hs => hab s (List.mem_cons_of_mem _ hs)) h
/-- the number of tokens of the first m terms -/
def tx_s (a : Nat → Nat) : List Nat → Nat → Nat
  | [], _ => 0
  | t :: l, m => if m = 0 then 0 else 1 + tx_s a l (m - 1 + a t)
theorem tx_s_0 {a : Nat → Nat} : ∀ l, tx_s a l 0 = 0 := by
  intro l
  cases l with
  | nil => rfl
  | cons t l => exact if_pos rfl
theorem tx_s_M {a : Nat → Nat} : ∀ l r m, tx_M a l m 0 → tx_s a (l ++ r) m = l.length := by
  intro l
  induction l with
  | nil =>
    intro r m h
    have h' : m = 0 := h
    rw [h']
    exact tx_s_0 _
  | cons t l ih =>
    rintro r m ⟨m0, e, h⟩
    subst e
    show (if m0 + 1 = 0 then 0 else 1 + tx_s a (l ++ r) (m0 + 1 - 1 + a t)) = l.length + 1
    rw [if_neg (by omega), Nat.add_sub_cancel, ih _ _ h]
    omega
/-- the size of the term at k -/
def tx_z (a : Nat → Nat) (T : Nat → Nat) (k : Nat) : Nat := tx_s a (tx_t T k 200) 1
theorem tx_z_of {a T : Nat → Nat} {k n : Nat} (h : tx_T a (tx_t T k n)) (hn : n ≤ 200) : tx_z a T k = n := by
  unfold tx_z
  have e : tx_t T k 200 = tx_t T k n ++ tx_t T (k + n) (200 - n) := by
    rw [← tx_app, show n + (200 - n) = 200 by omega]
  rw [e, tx_s_M _ _ _ h, tx_len]
theorem tx_sp {a T : Nat → Nat} {k n m1 m2 : Nat} (h : tx_M a (tx_t T k n) (m1 + m2) 0) : ∃ n1 n2, n = n1 + n2 ∧ tx_M a (tx_t T k n1) m1 0 ∧ tx_M a (tx_t T (k + n1) n2) m2 0 := by
  obtain ⟨l1, l2, e, h1, h2⟩ := tx_M_split _ _ _ h
  obtain ⟨en, e1, e2⟩ := tx_cut e
  rw [e1] at h1
  rw [e2] at h2
  exact ⟨_, _, en, h1, h2⟩
theorem tx_jn {a T : Nat → Nat} {k n1 n2 m1 m2 : Nat} (h1 : tx_M a (tx_t T k n1) m1 0) (h2 : tx_M a (tx_t T (k + n1) n2) m2 0) : tx_M a (tx_t T k (n1 + n2)) (m1 + m2) 0 := by
  rw [tx_app]
  refine (tx_M_app _ _ _ _).mpr ⟨m2, ?_, h2⟩
  have := tx_M_add _ _ _ m2 h1
  rw [Nat.zero_add] at this
  exact this
theorem tx_sub {a T : Nat → Nat} : ∀ n k m, tx_M a (tx_t T k n) m 0 → ∀ j, j < n → ∃ n', tx_T a (tx_t T (k + j) n') ∧ j + n' ≤ n ∧ 0 < n' := by
  intro n
  induction n with
  | zero => intro k m h j hj; omega
  | succ n ih =>
    intro k m h j hj
    have h0 := h
    obtain ⟨m0, e, h⟩ := h
    cases j with
    | zero =>
      rw [e, Nat.add_comm m0 1] at h0
      obtain ⟨n1, n2, en, h1, _⟩ := tx_sp h0
      have hp : 0 < n1 := by
        have := tx_T_pos h1
        rw [tx_len] at this
        exact this
      exact ⟨n1, h1, by omega, hp⟩
    | succ j =>
      obtain ⟨n', h1, h2, h3⟩ := ih _ _ h j (by omega)
      refine ⟨n', ?_, by omega, h3⟩
      rw [show k + (j + 1) = k + 1 + j by omega]
      exact h1
theorem tx_subz {a T : Nat → Nat} {k n m j : Nat} (h : tx_M a (tx_t T k n) m 0) (hn : n ≤ 200) (hj : j < n) : tx_T a (tx_t T (k + j) (tx_z a T (k + j))) ∧ j + tx_z a T (k + j) ≤ n ∧ 0 < tx_z a T (k + j) := by
  obtain ⟨n', h1, h2, h3⟩ := tx_sub _ _ _ h j hj
  have := tx_z_of h1 (by omega)
  rw [this]
  exact ⟨h1, h2, h3⟩
theorem tx_subk {a T : Nat → Nat} {b n m k : Nat} (h : tx_M a (tx_t T b n) m 0) (hn : n ≤ 200) (h1 : b ≤ k) (h2 : k < b + n) : tx_T a (tx_t T k (tx_z a T k)) ∧ k + tx_z a T k ≤ b + n ∧ 0 < tx_z a T k := by
  have := tx_subz (j := k - b) h hn (by omega)
  rw [show b + (k - b) = k by omega] at this
  exact ⟨this.1, by omega, this.2.2⟩
/-- the place of argument g of the term at k -/
def tx_g (a : Nat → Nat) (T : Nat → Nat) (k : Nat) : Nat → Nat
  | 0 => k + 1
  | g + 1 => tx_g a T k g + tx_z a T (tx_g a T k g)
theorem tx_arg {a T : Nat → Nat} {k n : Nat} (h : tx_T a (tx_t T k n)) (hn : n ≤ 200) : ∀ g, g ≤ a (T k) → k < tx_g a T k g ∧ tx_g a T k g ≤ k + n ∧ tx_M a (tx_t T (tx_g a T k g) (k + n - tx_g a T k g)) (a (T k) - g) 0 := by
  have hp : 0 < n := by
    have := tx_T_pos h
    rw [tx_len] at this
    exact this
  intro g
  induction g with
  | zero =>
    intro _
    obtain ⟨n', rfl⟩ : ∃ n', n = n' + 1 := ⟨n - 1, by omega⟩
    obtain ⟨m0, e, h⟩ := h
    have e0 : m0 = 0 := by omega
    subst e0
    rw [Nat.zero_add] at h
    refine ⟨Nat.lt_succ_self k, by show k + 1 ≤ _; omega, ?_⟩
    show tx_M a (tx_t T (k + 1) (k + (n' + 1) - (k + 1))) (a (T k) - 0) 0
    rw [show k + (n' + 1) - (k + 1) = n' by omega]
    exact h
  | succ g ih =>
    intro hg
    obtain ⟨h1, h2, h3⟩ := ih (by omega)
    rw [show a (T k) - g = 1 + (a (T k) - (g + 1)) by omega] at h3
    obtain ⟨n1, n2, en, h4, h5⟩ := tx_sp h3
    have ez : tx_z a T (tx_g a T k g) = n1 := tx_z_of h4 (by omega)
    have ee : tx_g a T k (g + 1) = tx_g a T k g + n1 := by
      show tx_g a T k g + tx_z a T (tx_g a T k g) = _
      rw [ez]
    rw [ee]
    refine ⟨by omega, by omega, ?_⟩
    rw [show k + n - (tx_g a T k g + n1) = n2 by omega]
    exact h5
theorem tx_args {a T : Nat → Nat} {k n g : Nat} (h : tx_T a (tx_t T k n)) (hn : n ≤ 200) (hg : g < a (T k)) : k < tx_g a T k g ∧ tx_g a T k g < k + n ∧ tx_T a (tx_t T (tx_g a T k g) (tx_z a T (tx_g a T k g))) ∧ tx_g a T k g + tx_z a T (tx_g a T k g) ≤ k + n ∧ 0 < tx_z a T (tx_g a T k g) := by
  obtain ⟨h1, h2, h3⟩ := tx_arg h hn g (by omega)
  have hl := tx_M_le _ _ h3
  rw [tx_len] at hl
  have := tx_subz (j := 0) h3 (by omega) (by omega)
  rw [Nat.add_zero] at this
  exact ⟨h1, by omega, this.1, by omega, this.2.2⟩
theorem tx_arge {a T : Nat → Nat} {k n : Nat} (h : tx_T a (tx_t T k n)) (hn : n ≤ 200) : tx_g a T k (a (T k)) = k + n := by
  obtain ⟨h1, h2, h3⟩ := tx_arg h hn _ (Nat.le_refl _)
  rw [Nat.sub_self] at h3
  have h4 := congrArg List.length (tx_M_zero h3)
  rw [tx_len] at h4
  have h5 : ([] : List Nat).length = 0 := rfl
  omega
/-- equal tokens along a term: sizes and argument places agree -/
theorem tx_zeq {a T T' : Nat → Nat} {x y n j : Nat} (h : tx_T a (tx_t T x n)) (hn : n ≤ 200) (e : tx_t T x n = tx_t T' y n) (hj : j < n) : T (x + j) = T' (y + j) ∧ tx_z a T (x + j) = tx_z a T' (y + j) := by
  refine ⟨(tx_eq n x y).mp e j hj, ?_⟩
  obtain ⟨h1, h2, h3⟩ := tx_subz h hn hj
  have e2 := tx_mid (j := j) (m := tx_z a T (x + j)) e h2
  have h4 := h1
  rw [e2] at h4
  exact (tx_z_of h4 (by omega)).symm
theorem tx_geq {a T T' : Nat → Nat} {x y n : Nat} (h : tx_T a (tx_t T x n)) (hn : n ≤ 200) (e : tx_t T x n = tx_t T' y n) : ∀ g, g ≤ a (T x) → tx_g a T' y g + x = tx_g a T x g + y := by
  intro g
  induction g with
  | zero => intro _; show y + 1 + x = x + 1 + y; omega
  | succ g ih =>
    intro hg
    have h0 := ih (by omega)
    obtain ⟨h1, h2, h3, h4, h5⟩ := tx_args h hn (show g < a (T x) by omega)
    have := (tx_zeq h hn e (j := tx_g a T x g - x) (by omega)).2
    rw [show x + (tx_g a T x g - x) = tx_g a T x g by omega, show y + (tx_g a T x g - x) = tx_g a T' y g by omega] at this
    show tx_g a T' y g + tx_z a T' (tx_g a T' y g) + x = tx_g a T x g + tx_z a T (tx_g a T x g) + y
    omega
theorem tx_shift (T : Nat → Nat) (b : Nat) : ∀ n k, tx_t (fun i => T (b + i)) k n = tx_t T (b + k) n := by
  intro n k
  exact tx_congr fun i _ => by show T (b + (k + i)) = T (b + k + i); rw [Nat.add_assoc]
theorem tx_zshift (a T : Nat → Nat) (b k : Nat) : tx_z a (fun i => T (b + i)) k = tx_z a T (b + k) := by
  unfold tx_z
  rw [tx_shift]
theorem tx_gshift (a T : Nat → Nat) (b k : Nat) : ∀ g, b + tx_g a (fun i => T (b + i)) k g = tx_g a T (b + k) g := by
  intro g
  induction g with
  | zero => rfl
  | succ g ih =>
    show b + (tx_g a (fun i => T (b + i)) k g + tx_z a (fun i => T (b + i)) (tx_g a (fun i => T (b + i)) k g)) = tx_g a T (b + k) g + tx_z a T (tx_g a T (b + k) g)
    rw [tx_zshift, ← ih]
    omega
theorem tx_mem {T : Nat → Nat} {t : Nat} : ∀ n k, t ∈ tx_t T k n ↔ ∃ i, i < n ∧ T (k + i) = t := by
  intro n
  induction n with
  | zero => intro k; exact ⟨fun h => (nomatch h), fun ⟨i, hi, _⟩ => by omega⟩
  | succ n ih =>
    intro k
    show t ∈ T k :: tx_t T (k + 1) n ↔ _
    rw [List.mem_cons, ih]
    constructor
    · rintro (h | ⟨i, hi, h⟩)
      · exact ⟨0, by omega, h.symm⟩
      · exact ⟨i + 1, by omega, by rw [show k + (i + 1) = k + 1 + i by omega]; exact h⟩
    · rintro ⟨i, hi, h⟩
      cases i with
      | zero => exact Or.inl h.symm
      | succ i => exact Or.inr ⟨i, by omega, by rw [show k + 1 + i = k + (i + 1) by omega]; exact h⟩
theorem tx_get {T : Nat → Nat} : ∀ n k i, i < n → (tx_t T k n).getD i 0 = T (k + i) := by
  intro n
  induction n with
  | zero => intro k i hi; omega
  | succ n ih =>
    intro k i hi
    cases i with
    | zero => rfl
    | succ i =>
      show (tx_t T (k + 1) n).getD i 0 = T (k + (i + 1))
      rw [ih _ _ (by omega), show k + 1 + i = k + (i + 1) by omega]
theorem tx_ofl : ∀ l : List Nat, tx_t (fun i => l.getD i 0) 0 l.length = l := by
  intro l
  induction l with
  | nil => rfl
  | cons t l ih =>
    show t :: tx_t (fun i => (t :: l).getD i 0) (0 + 1) l.length = t :: l
    congr 1
    have : tx_t (fun i => (t :: l).getD i 0) (0 + 1) l.length = tx_t (fun i => l.getD i 0) 0 l.length :=
      tx_congr fun i _ => by
        show (t :: l).getD (0 + 1 + i) 0 = l.getD (0 + i) 0
        rw [show 0 + 1 + i = i + 1 by omega, show 0 + i = i by omega]
        rfl
    rw [this, ih]
end
section
/-! the filter of a text, by a stack of flags (true: dropped) -/
def fl_f (a : Nat → Nat) (sh : Nat → List Bool) (rt : Nat → Bool) : List Nat → List Bool → List Nat
  | [], _ => []
  | _ :: _, [] => []
  | t :: l, true :: ds => fl_f a sh rt l (List.replicate (a t) true ++ ds)
  | t :: l, false :: ds => if rt t then t :: fl_f a sh rt l (sh t ++ ds) else fl_f a sh rt l (sh t ++ ds)
theorem fl_len {a : Nat → Nat} {sh : Nat → List Bool} {rt : Nat → Bool} : ∀ l ds, (fl_f a sh rt l ds).length ≤ l.length := by
  intro l
  induction l with
  | nil => intro ds; exact Nat.le_refl _
  | cons t l ih =>
    intro ds
    cases ds with
    | nil => exact Nat.zero_le _
    | cons d ds =>
      cases d with
      | true => exact Nat.le_succ_of_le (ih _)
      | false =>
        show (if rt t then t :: fl_f a sh rt l (sh t ++ ds) else fl_f a sh rt l (sh t ++ ds)).length ≤ l.length + 1
        by_cases h : rt t = true
        · rw [if_pos h]
          exact Nat.succ_le_succ (ih _)
        · rw [if_neg h]
          exact Nat.le_succ_of_le (ih _)
theorem fl_mem {a : Nat → Nat} {sh : Nat → List Bool} {rt : Nat → Bool} : ∀ l ds t, t ∈ fl_f a sh rt l ds → t ∈ l := by
  intro l
  induction l with
  | nil => intro ds t h; exact h
  | cons s l ih =>
    intro ds t h
    cases ds with
    | nil => exact absurd h (fun z => nomatch z)
    | cons d ds =>
      cases d with
      | true => exact List.mem_cons_of_mem _ (ih _ _ h)
      | false =>
        have h' : t ∈ (if rt s then s :: fl_f a sh rt l (sh s ++ ds) else fl_f a sh rt l (sh s ++ ds)) := h
        by_cases hr : rt s = true
        · rw [if_pos hr] at h'
          rcases List.mem_cons.mp h' with e | h2
          · rw [e]; exact List.mem_cons_self ..
          · exact List.mem_cons_of_mem _ (ih _ _ h2)
        · rw [if_neg hr] at h'
          exact List.mem_cons_of_mem _ (ih _ _ h')
theorem fl_crep (n : Nat) : (List.replicate n true).count false = 0 := by
  induction n with
  | zero => rfl
  | succ n ih => rw [List.replicate_succ, List.count_cons, ih]; rfl
theorem fl_M {a kp : Nat → Nat} {sh : Nat → List Bool} {rt : Nat → Bool} : ∀ l ds,
    (∀ t, t ∈ l → (sh t).length = a t ∧ (rt t = true → (sh t).count false = kp t) ∧ (rt t = false → (sh t).count false = 1)) →
    tx_M a l ds.length 0 → tx_M kp (fl_f a sh rt l ds) (ds.count false) 0 := by
  intro l
  induction l with
  | nil =>
    intro ds _ h
    have h' : ds.length = 0 := h
    rw [List.eq_nil_of_length_eq_zero h']
    exact rfl
  | cons t l ih =>
    rintro ds hs ⟨m0, e, h⟩
    obtain ⟨s1, s2, s3⟩ := hs t (List.mem_cons_self ..)
    have hs' := fun s hs' => hs s (List.mem_cons_of_mem t hs')
    cases ds with
    | nil => exact absurd e (by show ¬ 0 = m0 + 1; omega)
    | cons d ds =>
      have em : m0 = ds.length := by rw [List.length_cons] at e; omega
      cases d with
      | true =>
        have := ih (List.replicate (a t) true ++ ds) hs' (by rw [List.length_append, List.length_replicate, Nat.add_comm, ← em]; exact h)
        rw [List.count_append, fl_crep, Nat.zero_add] at this
        rw [List.count_cons]
        exact this
      | false =>
        have := ih (sh t ++ ds) hs' (by rw [List.length_append, s1, Nat.add_comm, ← em]; exact h)
        rw [List.count_append] at this
        have ec : (false :: ds).count false = ds.count false + 1 := by rw [List.count_cons]; rfl
        rw [ec]
        show tx_M kp (if rt t then t :: fl_f a sh rt l (sh t ++ ds) else fl_f a sh rt l (sh t ++ ds)) _ 0
        by_cases hr : rt t = true
        · rw [if_pos hr]
          refine ⟨_, rfl, ?_⟩
          rw [s2 hr, Nat.add_comm] at this
          exact this
        · rw [if_neg hr]
          rw [s3 (by cases hq : rt t; rfl; exact absurd hq hr), Nat.add_comm] at this
          exact this
/-! the flags of a symbol of arity A under digit d -/
def fk_k (A d g : Nat) : Bool := if A = 1 then decide (d ≠ 1) else (decide (d = 0) || decide (d = 1 + g) || decide (d = 4 + g))
def fk_s (A d : Nat) : List Bool := (List.range A).map (fun g => !fk_k A d g)
def fk_r (A d : Nat) : Bool := !(decide (4 ≤ d) || (decide (A = 1) && decide (d = 2)))
def fk_n (A d : Nat) : Nat := (fk_s A d).count false
def fk_ch (A : Nat) : Nat := if A = 0 then 1 else if A = 1 then 3 else 6
def fk_x (A d : Nat) : Nat := if A = 0 then 4 else if A = 1 then (if d = 0 then 5 else if d = 1 then 4 else 1) else (if d = 0 then 7 else if d = 1 then 5 else if d = 2 then 6 else if d = 3 then 4 else if d = 4 then 1 else 2)
theorem fk_len (A d : Nat) : (fk_s A d).length = A := by
  unfold fk_s
  rw [List.length_map, List.length_range]
theorem fk_fin1 : ∀ A, A < 3 → ∀ d, d < 6 → d < fk_ch A → (fk_r A d = false → (fk_s A d).count false = 1) := by decide
theorem fk_fin2 : ∀ A, A < 3 → ∀ d, d < 6 → d < fk_ch A → (0 < A → (fk_x A d % 2 = 0 ↔ fk_k A d 0 = false)) := by decide
theorem fk_fin3 : ∀ A, A < 3 → ∀ d, d < 6 → d < fk_ch A → (1 < A → (fk_x A d / 2 % 2 = 0 ↔ fk_k A d 1 = false)) := by decide
theorem fk_fin4 : ∀ A, A < 3 → ∀ d, d < 6 → d < fk_ch A → (fk_x A d / 4 % 2 = 0 ↔ fk_r A d = false) := by decide
theorem fk_fin5 : ∀ A, A < 3 → ∀ d, d < 6 → d < fk_ch A → fk_x A d % 2 + fk_x A d / 2 % 2 = fk_n A d ∧ fk_n A d ≤ A ∧ fk_x A d < 8 := by decide
theorem fk_fin (A : Nat) (hA : A < 3) (d : Nat) (hd : d < 6) (h : d < fk_ch A) : (fk_r A d = false → (fk_s A d).count false = 1) ∧
    (0 < A → (fk_x A d % 2 = 0 ↔ fk_k A d 0 = false)) ∧ (1 < A → (fk_x A d / 2 % 2 = 0 ↔ fk_k A d 1 = false)) ∧
    (fk_x A d / 4 % 2 = 0 ↔ fk_r A d = false) ∧ fk_x A d % 2 + fk_x A d / 2 % 2 = fk_n A d ∧ fk_n A d ≤ A ∧ fk_x A d < 8 :=
  ⟨fk_fin1 A hA d hd h, fk_fin2 A hA d hd h, fk_fin3 A hA d hd h, fk_fin4 A hA d hd h, fk_fin5 A hA d hd h⟩
theorem fk_d6 (A d : Nat) (h : d < fk_ch A) : d < 6 := by
  unfold fk_ch at h
  by_cases h0 : A = 0
  · rw [if_pos h0] at h; omega
  · rw [if_neg h0] at h
    by_cases h1 : A = 1
    · rw [if_pos h1] at h; omega
    · rw [if_neg h1] at h; omega
/-! digits of a filter -/
def fd_d (f s : Nat) : Nat := f / 6 ^ s % 6
def fd_g (f t : Nat) : Nat := if t < 4 then fd_d f t else 0
/-- a legal filter -/
def fd_L (a : Nat → Nat) (f : Nat) : Prop := f < 1296 ∧ ∀ s, s < 4 → fd_d f s < fk_ch (a s)
def fd_kp (a : Nat → Nat) (f t : Nat) : Nat := fk_n (a t) (fd_g f t)
def fd_sh (a : Nat → Nat) (f t : Nat) : List Bool := fk_s (a t) (fd_g f t)
def fd_rt (a : Nat → Nat) (f t : Nat) : Bool := fk_r (a t) (fd_g f t)
/-- arities as they are: 0, at most 1, at most 2, at most 2, and variables -/
def fd_A (a : Nat → Nat) : Prop := a 0 = 0 ∧ a 1 ≤ 1 ∧ a 2 ≤ 2 ∧ a 3 ≤ 2 ∧ ∀ t, 4 ≤ t → a t = 0
theorem fd_A3 {a : Nat → Nat} (h : fd_A a) (t : Nat) : a t < 3 := by
  obtain ⟨h0, h1, h2, h3, h4⟩ := h
  by_cases e4 : 4 ≤ t
  · rw [h4 t e4]; omega
  · have : t = 0 ∨ t = 1 ∨ t = 2 ∨ t = 3 := by omega
    rcases this with e | e | e | e <;> subst e <;> omega
theorem fd_lt {a : Nat → Nat} {f : Nat} (hA : fd_A a) (hf : fd_L a f) (t : Nat) : fd_g f t < fk_ch (a t) := by
  unfold fd_g
  by_cases h : t < 4
  · rw [if_pos h]; exact hf.2 t h
  · rw [if_neg h, hA.2.2.2.2 t (by omega)]
    decide
theorem fd_fin {a : Nat → Nat} {f : Nat} (hA : fd_A a) (hf : fd_L a f) (t : Nat) : (fk_r (a t) (fd_g f t) = false → (fk_s (a t) (fd_g f t)).count false = 1) ∧
    (0 < a t → (fk_x (a t) (fd_g f t) % 2 = 0 ↔ fk_k (a t) (fd_g f t) 0 = false)) ∧ (1 < a t → (fk_x (a t) (fd_g f t) / 2 % 2 = 0 ↔ fk_k (a t) (fd_g f t) 1 = false)) ∧
    (fk_x (a t) (fd_g f t) / 4 % 2 = 0 ↔ fk_r (a t) (fd_g f t) = false) ∧ fk_x (a t) (fd_g f t) % 2 + fk_x (a t) (fd_g f t) / 2 % 2 = fk_n (a t) (fd_g f t) ∧ fk_n (a t) (fd_g f t) ≤ a t ∧ fk_x (a t) (fd_g f t) < 8 :=
  fk_fin _ (fd_A3 hA t) _ (fk_d6 _ _ (fd_lt hA hf t)) (fd_lt hA hf t)
/-- the filtered text of a term -/
def fd_f (a : Nat → Nat) (f : Nat) (l : List Nat) : List Nat := fl_f a (fd_sh a f) (fd_rt a f) l [false]
theorem fd_T {a : Nat → Nat} {f : Nat} (hA : fd_A a) (hf : fd_L a f) {l : List Nat} (h : tx_T a l) : tx_T (fd_kp a f) (fd_f a f l) := by
  have := fl_M (a := a) (kp := fd_kp a f) (sh := fd_sh a f) (rt := fd_rt a f) l [false]
    (fun t _ => ⟨fk_len _ _, fun _ => rfl, (fd_fin hA hf t).1⟩) h
  exact this
theorem fd_len (a : Nat → Nat) (f : Nat) (l : List Nat) : (fd_f a f l).length ≤ l.length := fl_len _ _
theorem fd_mem {a : Nat → Nat} {f : Nat} {l : List Nat} {t : Nat} (h : t ∈ fd_f a f l) : t ∈ l := fl_mem _ _ _ h
theorem fd_kpv {a : Nat → Nat} (hA : fd_A a) (f : Nat) {t : Nat} (h : 4 ≤ t) : fd_kp a f t = 0 := by
  unfold fd_kp fk_n
  rw [hA.2.2.2.2 t h]
  rfl
theorem fd_kp3 {a : Nat → Nat} {f : Nat} (hA : fd_A a) (hf : fd_L a f) (t : Nat) : fd_kp a f t < 3 := by
  have := (fd_fin hA hf t).2.2.2.2.2.1
  have := fd_A3 hA t
  unfold fd_kp
  omega
end
section
/-! the path order on filtered texts L and R: one step, and the canonical table -/
def po_S (kp L R : Nat → Nat) (x y : Nat) : Prop := tx_t L x (tx_z kp L x) = tx_t R y (tx_z kp L x)
def po_x (kp L R : Nat → Nat) (G : Nat → Nat → Prop) (i j : Nat) : Prop :=
  ∃ g, g < kp (L i) ∧ (∀ h, h < g → po_S kp L R (tx_g kp L i h) (tx_g kp R j h)) ∧ ¬ po_S kp L R (tx_g kp L i g) (tx_g kp R j g) ∧ G (tx_g kp L i g) (tx_g kp R j g)
def po_a (kp L R : Nat → Nat) (G : Nat → Nat → Prop) (i j : Nat) : Prop :=
  ∃ g, g < kp (L i) ∧ (po_S kp L R (tx_g kp L i g) j ∨ G (tx_g kp L i g) j)
def po_b (kp L R lv : Nat → Nat) (G : Nat → Nat → Prop) (i j : Nat) : Prop :=
  R j < 4 ∧ (∀ g, g < kp (R j) → G i (tx_g kp R j g)) ∧ (L i = R j → po_x kp L R G i j) ∧ (L i ≠ R j → lv (R j) < lv (L i))
def po_s (kp L R lv : Nat → Nat) (G : Nat → Nat → Prop) (i j : Nat) : Prop :=
  L i < 4 ∧ (po_a kp L R G i j ∨ po_b kp L R lv G i j)
def po_n (kp L R lv : Nat → Nat) : Nat → Nat → Nat → Prop
  | 0 => fun _ _ => False
  | n + 1 => po_s kp L R lv (po_n kp L R lv n)
def po_G (kp L R lv : Nat → Nat) : Nat → Nat → Prop := po_n kp L R lv 40
theorem po_congr {kp L R lv : Nat → Nat} {nL nR : Nat} (hL : tx_T kp (tx_t L 0 nL)) (hR : tx_T kp (tx_t R 0 nR)) (bL : nL ≤ 8) (bR : nR ≤ 8)
    {G G' : Nat → Nat → Prop} {i j : Nat} (hi : i < nL) (hj : j < nR)
    (h : ∀ x y, i ≤ x → j ≤ y → x < nL → y < nR → (i < x ∨ j < y) → (G x y ↔ G' x y)) : po_s kp L R lv G i j ↔ po_s kp L R lv G' i j := by
  have aL : ∀ g, g < kp (L i) → i < tx_g kp L i g ∧ tx_g kp L i g < nL := by
    intro g hg
    obtain ⟨h1, h2, _⟩ := tx_subk hL (by omega) (Nat.zero_le i) (by omega)
    obtain ⟨h4, h5, _⟩ := tx_args h1 (by omega) hg
    exact ⟨h4, by omega⟩
  have aR : ∀ g, g < kp (R j) → j < tx_g kp R j g ∧ tx_g kp R j g < nR := by
    intro g hg
    obtain ⟨h1, h2, _⟩ := tx_subk hR (by omega) (Nat.zero_le j) (by omega)
    obtain ⟨h4, h5, _⟩ := tx_args h1 (by omega) hg
    exact ⟨h4, by omega⟩
  have e1 : po_a kp L R G i j ↔ po_a kp L R G' i j := by
    unfold po_a
    constructor
    · rintro ⟨g, hg, hc⟩
      refine ⟨g, hg, hc.imp id fun q => ?_⟩
      exact (h _ _ (by have := aL g hg; omega) (Nat.le_refl _) (aL g hg).2 hj (Or.inl (aL g hg).1)).mp q
    · rintro ⟨g, hg, hc⟩
      refine ⟨g, hg, hc.imp id fun q => ?_⟩
      exact (h _ _ (by have := aL g hg; omega) (Nat.le_refl _) (aL g hg).2 hj (Or.inl (aL g hg).1)).mpr q
  have e2 : (∀ g, g < kp (R j) → G i (tx_g kp R j g)) ↔ (∀ g, g < kp (R j) → G' i (tx_g kp R j g)) := by
    constructor
    · intro q g hg
      exact (h _ _ (Nat.le_refl _) (by have := aR g hg; omega) hi (aR g hg).2 (Or.inr (aR g hg).1)).mp (q g hg)
    · intro q g hg
      exact (h _ _ (Nat.le_refl _) (by have := aR g hg; omega) hi (aR g hg).2 (Or.inr (aR g hg).1)).mpr (q g hg)
  have e3 : L i = R j → (po_x kp L R G i j ↔ po_x kp L R G' i j) := by
    intro e
    unfold po_x
    constructor
    · rintro ⟨g, hg, h1, h2, h3⟩
      have hgR : g < kp (R j) := by rw [← e]; exact hg
      exact ⟨g, hg, h1, h2, (h _ _ (by have := aL g hg; omega) (by have := aR g hgR; omega) (aL g hg).2 (aR g hgR).2 (Or.inl (aL g hg).1)).mp h3⟩
    · rintro ⟨g, hg, h1, h2, h3⟩
      have hgR : g < kp (R j) := by rw [← e]; exact hg
      exact ⟨g, hg, h1, h2, (h _ _ (by have := aL g hg; omega) (by have := aR g hgR; omega) (aL g hg).2 (aR g hgR).2 (Or.inl (aL g hg).1)).mpr h3⟩
  unfold po_s po_b
  rw [e1, e2]
  constructor
  · rintro ⟨h1, h2⟩
    refine ⟨h1, h2.imp id fun ⟨q1, q2, q3, q4⟩ => ⟨q1, q2, fun e => (e3 e).mp (q3 e), q4⟩⟩
  · rintro ⟨h1, h2⟩
    refine ⟨h1, h2.imp id fun ⟨q1, q2, q3, q4⟩ => ⟨q1, q2, fun e => (e3 e).mpr (q3 e), q4⟩⟩
theorem po_st {kp L R lv : Nat → Nat} {nL nR : Nat} (hL : tx_T kp (tx_t L 0 nL)) (hR : tx_T kp (tx_t R 0 nR)) (bL : nL ≤ 8) (bR : nR ≤ 8) :
    ∀ n n' i j, i < nL → j < nR → (nL - i) + (nR - j) < n → (nL - i) + (nR - j) < n' → (po_n kp L R lv n i j ↔ po_n kp L R lv n' i j) := by
  intro n
  induction n with
  | zero => intro n' i j _ _ h _; omega
  | succ n ih =>
    intro n' i j hi hj h1 h2
    cases n' with
    | zero => omega
    | succ n' =>
      show po_s kp L R lv (po_n kp L R lv n) i j ↔ po_s kp L R lv (po_n kp L R lv n') i j
      exact po_congr hL hR bL bR hi hj fun x y hx hy hx' hy' hxy => ih n' x y hx' hy' (by omega) (by omega)
theorem po_fix {kp L R lv : Nat → Nat} {nL nR : Nat} (hL : tx_T kp (tx_t L 0 nL)) (hR : tx_T kp (tx_t R 0 nR)) (bL : nL ≤ 8) (bR : nR ≤ 8)
    {i j : Nat} (hi : i < nL) (hj : j < nR) : po_G kp L R lv i j ↔ po_s kp L R lv (po_G kp L R lv) i j := by
  have := po_st (lv := lv) hL hR bL bR 40 41 i j hi hj (by omega) (by omega)
  exact this
/-- the canonical table may be reckoned from any table that agrees behind (i, j) -/
theorem po_use {kp L R lv : Nat → Nat} {nL nR : Nat} (hL : tx_T kp (tx_t L 0 nL)) (hR : tx_T kp (tx_t R 0 nR)) (bL : nL ≤ 8) (bR : nR ≤ 8)
    {G : Nat → Nat → Prop} {i j : Nat} (hi : i < nL) (hj : j < nR)
    (h : ∀ x y, i ≤ x → j ≤ y → x < nL → y < nR → (i < x ∨ j < y) → (G x y ↔ po_G kp L R lv x y)) : po_s kp L R lv G i j ↔ po_G kp L R lv i j :=
  (po_congr hL hR bL bR hi hj h).trans (po_fix hL hR bL bR hi hj).symm
/-- sameness goes down to the arguments -/
theorem po_Sa {kp L R : Nat → Nat} {nL : Nat} (hL : tx_T kp (tx_t L 0 nL)) (bL : nL ≤ 8) {x y : Nat} (hx : x < nL) (h : po_S kp L R x y) :
    L x = R y ∧ tx_z kp L x = tx_z kp R y ∧ ∀ g, g < kp (L x) → po_S kp L R (tx_g kp L x g) (tx_g kp R y g) := by
  obtain ⟨h1, h2, h3⟩ := tx_subk hL (by omega) (Nat.zero_le x) (by omega)
  have h0 := tx_zeq h1 (by omega) h (j := 0) h3
  rw [Nat.add_zero, Nat.add_zero] at h0
  refine ⟨h0.1, h0.2, fun g hg => ?_⟩
  obtain ⟨a1, a2, a3, a4, a5⟩ := tx_args h1 (by omega) hg
  have eg := tx_geq h1 (by omega) h g (by omega)
  have := tx_mid (j := tx_g kp L x g - x) (m := tx_z kp L (tx_g kp L x g)) h (by omega)
  rw [show x + (tx_g kp L x g - x) = tx_g kp L x g by omega, show y + (tx_g kp L x g - x) = tx_g kp R y g by omega] at this
  exact this
/-- what is greater than a term is greater than its arguments -/
theorem po_down {kp L R lv : Nat → Nat} {nL nR : Nat} (hv : ∀ t, 4 ≤ t → kp t = 0) (hL : tx_T kp (tx_t L 0 nL)) (hR : tx_T kp (tx_t R 0 nR)) (bL : nL ≤ 8) (bR : nR ≤ 8) :
    ∀ d i j g, nL - i < d → i < nL → j < nR → g < kp (R j) → po_G kp L R lv i j → po_G kp L R lv i (tx_g kp R j g) := by
  intro d
  induction d with
  | zero => intro i j g h; omega
  | succ d ih =>
    intro i j g hd hi hj hg hG
    have hjg : j < tx_g kp R j g ∧ tx_g kp R j g < nR := by
      obtain ⟨h1, h2, _⟩ := tx_subk hR (by omega) (Nat.zero_le j) (by omega)
      obtain ⟨h4, h5, _⟩ := tx_args h1 (by omega) hg
      exact ⟨h4, by omega⟩
    obtain ⟨hs, hc⟩ := (po_fix hL hR bL bR hi hj).mp hG
    rcases hc with ⟨q, hq, hc⟩ | ⟨_, hb, _⟩
    · have hiq : i < tx_g kp L i q ∧ tx_g kp L i q < nL := by
        obtain ⟨h1, h2, _⟩ := tx_subk hL (by omega) (Nat.zero_le i) (by omega)
        obtain ⟨h4, h5, _⟩ := tx_args h1 (by omega) hq
        exact ⟨h4, by omega⟩
      have hx : po_G kp L R lv (tx_g kp L i q) (tx_g kp R j g) := by
        rcases hc with hc | hc
        · obtain ⟨e1, e2, e3⟩ := po_Sa hL bL hiq.2 hc
          refine (po_fix hL hR bL bR hiq.2 hjg.2).mpr ⟨?_, Or.inl ⟨g, by rw [e1]; exact hg, Or.inl (e3 g (by rw [e1]; exact hg))⟩⟩
          rw [e1]
          by_cases h4 : R j < 4
          · exact h4
          · rw [hv (R j) (by omega)] at hg
            omega
        · exact ih _ _ _ (by omega) hiq.2 hj hg hc
      exact (po_fix hL hR bL bR hi hjg.2).mpr ⟨hs, Or.inl ⟨q, hq, Or.inr hx⟩⟩
    · exact hb g hg
/-- a term is never greater than the same term -/
theorem po_irr {kp L R lv : Nat → Nat} {nL nR : Nat} (hv : ∀ t, 4 ≤ t → kp t = 0) (hL : tx_T kp (tx_t L 0 nL)) (hR : tx_T kp (tx_t R 0 nR)) (bL : nL ≤ 8) (bR : nR ≤ 8) :
    ∀ d i j, nL - i < d → i < nL → j < nR → po_S kp L R i j → ¬ po_G kp L R lv i j := by
  intro d
  induction d with
  | zero => intro i j h; omega
  | succ d ih =>
    intro i j hd hi hj hS hG
    obtain ⟨e1, e2, e3⟩ := po_Sa hL bL hi hS
    obtain ⟨hs, hc⟩ := (po_fix hL hR bL bR hi hj).mp hG
    rcases hc with ⟨q, hq, hc⟩ | ⟨_, _, hb, _⟩
    · obtain ⟨h1, h2, h3⟩ := tx_subk hL (by omega) (Nat.zero_le i) (by omega)
      obtain ⟨h4, h5, h6, h7, h8⟩ := tx_args h1 (by omega) hq
      rcases hc with hc | hc
      · obtain ⟨f1, f2, f3⟩ := po_Sa hL bL (x := tx_g kp L i q) (by omega) hc
        omega
      · have hqR : q < kp (R j) := by rw [← e1]; exact hq
        have hjq : j < tx_g kp R j q ∧ tx_g kp R j q < nR := by
          obtain ⟨k1, k2, _⟩ := tx_subk hR (by omega) (Nat.zero_le j) (by omega)
          obtain ⟨k4, k5, _⟩ := tx_args k1 (by omega) hqR
          exact ⟨k4, by omega⟩
        have hd2 := po_down (lv := lv) hv hL hR bL bR 9 (tx_g kp L i q) j q (by omega) (by omega) hj hqR hc
        exact ih _ _ (by omega) (by omega) hjq.2 (e3 q hq) hd2
    · obtain ⟨g, hg, _, h2, _⟩ := hb e1
      exact h2 (e3 g hg)
/-! the relation of two texts under a filter and a precedence: as lists -/
def po_L (l : List Nat) : Nat → Nat := fun i => l.getD i 0
/-- strictly greater, by filtered lists -/
def po_V (kp lv : Nat → Nat) (l r : List Nat) : Prop := po_G kp (po_L l) (po_L r) lv 0 0
theorem po_sym {kp L R : Nat → Nat} {nL nR x y : Nat} (hL : tx_T kp (tx_t L 0 nL)) (hR : tx_T kp (tx_t R 0 nR)) (bL : nL ≤ 8) (bR : nR ≤ 8) (hx : x < nL) (hy : y < nR) :
    po_S kp L R x y ↔ tx_z kp L x = tx_z kp R y ∧ ∀ i, i < tx_z kp L x → L (x + i) = R (y + i) := by
  constructor
  · intro h
    exact ⟨(po_Sa hL bL hx h).2.1, (tx_eq _ _ _).mp h⟩
  · rintro ⟨_, h⟩
    exact (tx_eq _ _ _).mpr h
/-- the whole texts are the same exactly if the lists are -/
theorem po_S0 {kp L R : Nat → Nat} {nL nR : Nat} (hL : tx_T kp (tx_t L 0 nL)) (hR : tx_T kp (tx_t R 0 nR)) (bL : nL ≤ 8) (bR : nR ≤ 8) :
    po_S kp L R 0 0 ↔ tx_t L 0 nL = tx_t R 0 nR := by
  have zL := tx_z_of hL (by omega)
  have zR := tx_z_of hR (by omega)
  have pL : 0 < nL := by have := tx_T_pos hL; rw [tx_len] at this; exact this
  have pR : 0 < nR := by have := tx_T_pos hR; rw [tx_len] at this; exact this
  constructor
  · intro h
    have := (po_Sa hL bL pL h).2.1
    have e : nL = nR := by rw [← zL, ← zR]; exact this
    unfold po_S at h
    rw [zL] at h
    rw [← e]
    exact h
  · intro h
    have e : nL = nR := by
      have := congrArg List.length h
      rw [tx_len, tx_len] at this
      exact this
    unfold po_S
    rw [zL, h, e]
end
section
/-! connectedness of two texts U (a right side) and V (a left side) -/
def cf_l (a U V : Nat → Nat) (F : Nat → Nat → Prop) (i j : Nat) : Prop := U i = V j ∧ ∀ g, g < a (U i) → F (tx_g a U i g) (tx_g a V j g)
def cf_s (a U V : Nat → Nat) (df : Nat → Prop) (F : Nat → Nat → Prop) (i j : Nat) : Prop := cf_l a U V F i j ∨ 4 ≤ U i ∨ 4 ≤ V j ∨ df (U i)
def cf_n (a U V : Nat → Nat) (df : Nat → Prop) : Nat → Nat → Nat → Prop
  | 0 => fun _ _ => False
  | n + 1 => cf_s a U V df (cf_n a U V df n)
def cf_F (a U V : Nat → Nat) (df : Nat → Prop) : Nat → Nat → Prop := cf_n a U V df 40
theorem cf_lcongr {a U V : Nat → Nat} {nU nV : Nat} (hU : tx_T a (tx_t U 0 nU)) (hV : tx_T a (tx_t V 0 nV)) (bU : nU ≤ 8) (bV : nV ≤ 8)
    {F F' : Nat → Nat → Prop} {i j : Nat} (hi : i < nU) (hj : j < nV)
    (h : ∀ x y, i < x → j < y → x < nU → y < nV → (F x y ↔ F' x y)) : cf_l a U V F i j ↔ cf_l a U V F' i j := by
  have key : U i = V j → ∀ g, g < a (U i) → (F (tx_g a U i g) (tx_g a V j g) ↔ F' (tx_g a U i g) (tx_g a V j g)) := by
    intro e g hg
    obtain ⟨h1, h2, _⟩ := tx_subk hU (by omega) (Nat.zero_le i) (by omega)
    obtain ⟨h4, h5, _⟩ := tx_args h1 (by omega) hg
    obtain ⟨k1, k2, _⟩ := tx_subk hV (by omega) (Nat.zero_le j) (by omega)
    obtain ⟨k4, k5, _⟩ := tx_args k1 (by omega) (show g < a (V j) by rw [← e]; exact hg)
    exact h _ _ h4 k4 (by omega) (by omega)
  unfold cf_l
  constructor
  · rintro ⟨e, q⟩
    exact ⟨e, fun g hg => (key e g hg).mp (q g hg)⟩
  · rintro ⟨e, q⟩
    exact ⟨e, fun g hg => (key e g hg).mpr (q g hg)⟩
theorem cf_st {a U V : Nat → Nat} {df : Nat → Prop} {nU nV : Nat} (hU : tx_T a (tx_t U 0 nU)) (hV : tx_T a (tx_t V 0 nV)) (bU : nU ≤ 8) (bV : nV ≤ 8) :
    ∀ n n' i j, i < nU → j < nV → nU - i < n → nU - i < n' → (cf_n a U V df n i j ↔ cf_n a U V df n' i j) := by
  intro n
  induction n with
  | zero => intro n' i j _ _ h _; omega
  | succ n ih =>
    intro n' i j hi hj h1 h2
    cases n' with
    | zero => omega
    | succ n' =>
      show cf_s a U V df (cf_n a U V df n) i j ↔ cf_s a U V df (cf_n a U V df n') i j
      unfold cf_s
      rw [cf_lcongr hU hV bU bV hi hj fun x y hx hy hx' hy' => ih n' x y hx' hy' (by omega) (by omega)]
theorem cf_fix {a U V : Nat → Nat} {df : Nat → Prop} {nU nV : Nat} (hU : tx_T a (tx_t U 0 nU)) (hV : tx_T a (tx_t V 0 nV)) (bU : nU ≤ 8) (bV : nV ≤ 8)
    {i j : Nat} (hi : i < nU) (hj : j < nV) : cf_F a U V df i j ↔ cf_s a U V df (cf_F a U V df) i j := by
  have := cf_st (df := df) hU hV bU bV 40 41 i j hi hj (by omega) (by omega)
  exact this
/-- connected: the roots are alike -/
def cf_C (a U V : Nat → Nat) (df : Nat → Prop) : Prop := cf_l a U V (cf_F a U V df) 0 0
/-- m terms on from k -/
def tx_k (a T : Nat → Nat) (k : Nat) : Nat → Nat
  | 0 => k
  | m + 1 => tx_k a T k m + tx_z a T (tx_k a T k m)
theorem tx_gk (a T : Nat → Nat) (k : Nat) : ∀ g, tx_g a T k g = tx_k a T (k + 1) g := by
  intro g
  induction g with
  | zero => rfl
  | succ g ih =>
    show tx_g a T k g + tx_z a T (tx_g a T k g) = tx_k a T (k + 1) g + tx_z a T (tx_k a T (k + 1) g)
    rw [ih]
theorem tx_kadd (a T : Nat → Nat) (k p : Nat) : ∀ q, tx_k a T k (p + q) = tx_k a T (tx_k a T k p) q := by
  intro q
  induction q with
  | zero => rfl
  | succ q ih =>
    show tx_k a T k (p + q) + tx_z a T (tx_k a T k (p + q)) = tx_k a T (tx_k a T k p) q + tx_z a T (tx_k a T (tx_k a T k p) q)
    rw [ih]
theorem tx_k1 (a T : Nat → Nat) (k q : Nat) : tx_k a T k (q + 1) = tx_k a T (k + tx_z a T k) q := by
  rw [Nat.add_comm, tx_kadd]
  rfl
def cf_A (a U V : Nat → Nat) (F : Nat → Nat → Prop) (m i j : Nat) : Prop := ∀ g, g < m → F (tx_k a U i g) (tx_k a V j g)
theorem cf_A0 (a U V : Nat → Nat) (F : Nat → Nat → Prop) (i j : Nat) : cf_A a U V F 0 i j := fun _ h => absurd h (Nat.not_lt_zero _)
theorem cf_A1 {a U V : Nat → Nat} {F : Nat → Nat → Prop} {m i j : Nat} : cf_A a U V F (m + 1) i j ↔ F i j ∧ cf_A a U V F m (i + tx_z a U i) (j + tx_z a V j) := by
  unfold cf_A
  constructor
  · intro h
    refine ⟨h 0 (by omega), fun g hg => ?_⟩
    have := h (g + 1) (by omega)
    rw [tx_k1, tx_k1] at this
    exact this
  · rintro ⟨h0, h⟩ g hg
    cases g with
    | zero => exact h0
    | succ g =>
      rw [tx_k1, tx_k1]
      exact h g (by omega)
theorem cf_Ap {a U V : Nat → Nat} {F : Nat → Nat → Prop} {p q i j : Nat} : cf_A a U V F (p + q) i j ↔ cf_A a U V F p i j ∧ cf_A a U V F q (tx_k a U i p) (tx_k a V j p) := by
  unfold cf_A
  constructor
  · intro h
    refine ⟨fun g hg => h g (by omega), fun g hg => ?_⟩
    have := h (p + g) (by omega)
    rw [tx_kadd, tx_kadd] at this
    exact this
  · rintro ⟨h0, h⟩ g hg
    by_cases hgp : g < p
    · exact h0 g hgp
    · have := h (g - p) (by omega)
      rw [← tx_kadd, ← tx_kadd, show p + (g - p) = g by omega] at this
      exact this
/-! reachability -/
def gr_R (E : Nat → Nat → Prop) : Nat → Nat → Prop := Relation.TransGen E
theorem gr_flip {E : Nat → Nat → Prop} {a b : Nat} (h : gr_R (fun x y => E y x) a b) : gr_R E b a := by
  unfold gr_R at *
  induction h with
  | single h => exact Relation.TransGen.single h
  | tail _ h ih => exact Relation.TransGen.trans (Relation.TransGen.single h) ih
theorem gr_least {E : Nat → Nat → Prop} {a b : Nat} (h : gr_R E a b) (S : Nat → Prop) (h0 : ∀ y, E a y → S y) (h1 : ∀ x y, S x → E x y → S y) : S b := by
  unfold gr_R at h
  induction h with
  | single h => exact h0 _ h
  | tail _ h ih => exact h1 _ _ ih h
/-! counting -/
def gr_c (f : Nat → Bool) : Nat → Nat
  | 0 => 0
  | n + 1 => gr_c f n + (if f n then 1 else 0)
theorem gr_cle (f : Nat → Bool) : ∀ n, gr_c f n ≤ n := by
  intro n
  induction n with
  | zero => exact Nat.le_refl _
  | succ n ih =>
    show gr_c f n + (if f n then 1 else 0) ≤ n + 1
    by_cases h : f n = true
    · rw [if_pos h]; omega
    · rw [if_neg h]; omega
theorem gr_cmono {f g : Nat → Bool} : ∀ n, (∀ i, i < n → f i = true → g i = true) → gr_c f n ≤ gr_c g n := by
  intro n
  induction n with
  | zero => intro _; exact Nat.le_refl _
  | succ n ih =>
    intro h
    have h1 := ih (fun i hi => h i (by omega))
    show gr_c f n + (if f n then 1 else 0) ≤ gr_c g n + (if g n then 1 else 0)
    by_cases hf : f n = true
    · rw [if_pos hf, if_pos (h n (by omega) hf)]; omega
    · rw [if_neg hf]; omega
theorem gr_clt {f g : Nat → Bool} : ∀ n, (∀ i, i < n → f i = true → g i = true) → ∀ k, k < n → f k = false → g k = true → gr_c f n < gr_c g n := by
  intro n
  induction n with
  | zero => intro _ k hk; omega
  | succ n ih =>
    intro h k hk hf hg
    show gr_c f n + (if f n then 1 else 0) < gr_c g n + (if g n then 1 else 0)
    by_cases e : k = n
    · subst e
      have h1 := gr_cmono k (fun i hi => h i (by omega))
      rw [hg, hf]
      show gr_c f k + 0 < gr_c g k + 1
      omega
    · have h1 := ih (fun i hi => h i (by omega)) k (by omega) hf hg
      by_cases hf' : f n = true
      · rw [if_pos hf', if_pos (h n (by omega) hf')]; omega
      · rw [if_neg hf']; omega
theorem gr_c0 {f : Nat → Bool} : ∀ n, (∀ i, i < n → f i = false) → gr_c f n = 0 := by
  intro n
  induction n with
  | zero => intro _; rfl
  | succ n ih =>
    intro h
    show gr_c f n + (if f n then 1 else 0) = 0
    rw [ih (fun i hi => h i (by omega)), h n (by omega)]
    rfl
theorem gr_cpos {f : Nat → Bool} {n k : Nat} (hk : k < n) (h : f k = true) : 0 < gr_c f n := by
  have := gr_clt (f := fun _ => false) (g := f) n (fun _ _ z => (nomatch z)) k hk rfl h
  omega
theorem gr_cext {f g : Nat → Bool} (n : Nat) (h : ∀ i, i < n → f i = g i) : gr_c f n = gr_c g n :=
  Nat.le_antisymm (gr_cmono n fun i hi z => by rw [← h i hi]; exact z) (gr_cmono n fun i hi z => by rw [h i hi]; exact z)
/-! one round of the closure, and eight -/
def gr_K (K : Nat → Nat → Prop) (S : Nat → Prop) : Prop := ∀ r s, r < 8 → s < 8 → S r → K r s → S s
/-- g is what a full round makes of f -/
def gr_rd (K : Nat → Nat → Prop) (f g : Nat → Bool) : Prop :=
  (∀ i, f i = true → g i = true) ∧ (∀ r s, r < 8 → s < 8 → f r = true → K r s → g s = true) ∧
  (∀ S : Nat → Prop, (∀ i, f i = true → S i) → gr_K K S → ∀ i, g i = true → S i)
/-- g is what k rounds make of f -/
def gr_rk (K : Nat → Nat → Prop) (k : Nat) (f g : Nat → Bool) : Prop :=
  (∀ i, f i = true → g i = true) ∧ (gr_K K (fun i => g i = true) ∨ k < gr_c g 8 ) ∧
  (∀ S : Nat → Prop, (∀ i, f i = true → S i) → gr_K K S → ∀ i, g i = true → S i)
theorem gr_rk0 {K : Nat → Nat → Prop} {f : Nat → Bool} : gr_rk K 0 f f := by
  refine ⟨fun _ h => h, ?_, fun S h _ i hi => h i hi⟩
  by_cases h : ∃ k, k < 8 ∧ f k = true
  · obtain ⟨k, hk, hf⟩ := h
    exact Or.inr (gr_cpos hk hf)
  · refine Or.inl fun r s hr hs hfr _ => absurd ⟨r, hr, hfr⟩ h
theorem gr_rk1 {K : Nat → Nat → Prop} {k : Nat} {f g g' : Nat → Bool} (h : gr_rk K k f g) (h' : gr_rd K g g') : gr_rk K (k + 1) f g' := by
  obtain ⟨a1, a2, a3⟩ := h
  obtain ⟨b1, b2, b3⟩ := h'
  refine ⟨fun i hi => b1 i (a1 i hi), ?_, fun S hS hK i hi => b3 S (a3 S hS hK) hK i hi⟩
  by_cases hc : gr_K K (fun i => g i = true)
  · left
    intro r s hr hs hg hk
    have e : ∀ i, g' i = true → g i = true := b3 (fun i => g i = true) (fun _ z => z) hc
    exact b1 s (hc r s hr hs (e r hg) hk)
  · right
    have hk := a2.resolve_left hc
    have : ∃ s, s < 8 ∧ g s = false ∧ g' s = true := by
      apply Classical.byContradiction
      intro hn
      apply hc
      intro r s hr hs hg hkk
      have h1 : g' s = true := b2 r s hr hs hg hkk
      cases h2 : g s with
      | true => rfl
      | false => exact absurd ⟨s, hs, h2, h1⟩ hn
    obtain ⟨s, hs, h1, h2⟩ := this
    have := gr_clt 8 (fun i _ => b1 i) s hs h1 h2
    omega
/-- eight rounds: the least closed set -/
theorem gr_rk8 {K : Nat → Nat → Prop} {f g : Nat → Bool} (h : gr_rk K 8 f g) : (∀ i, f i = true → g i = true) ∧ gr_K K (fun i => g i = true) ∧ (∀ S : Nat → Prop, (∀ i, f i = true → S i) → gr_K K S → ∀ i, g i = true → S i) := by
  refine ⟨h.1, h.2.1.resolve_right ?_, h.2.2⟩
  have := gr_cle g 8
  omega
/-! Warshall -/
def gr_W (M : Nat → Nat → Prop) (k : Nat) : Prop := ∀ a b c, a < 8 → b < 8 → c < k → M a c → M c b → M a b
theorem gr_W1 {M M' : Nat → Nat → Prop} {k : Nat} (hk : k < 8) (h : gr_W M k) (e : ∀ a b, a < 8 → b < 8 → (M' a b ↔ M a b ∨ (M a k ∧ M k b))) : gr_W M' (k + 1) := by
  intro a b c ha hb hc h1 h2
  have e1 := e a b ha hb
  have e2 := (e a c ha (by omega)).mp h1
  have e3 := (e c b (by omega) hb).mp h2
  rw [e1]
  by_cases hck : c = k
  · subst hck
    right
    refine ⟨?_, ?_⟩
    · rcases e2 with q | q
      · exact q
      · exact q.1
    · rcases e3 with q | q
      · exact q
      · exact q.2
  · have hc' : c < k := by omega
    rcases e2 with q | q
    · rcases e3 with p | p
      · exact Or.inl (h a b c ha hb hc' q p)
      · exact Or.inr ⟨h a k c ha hk hc' q p.1, p.2⟩
    · rcases e3 with p | p
      · exact Or.inr ⟨q.1, h k b c hk hb hc' q.2 p⟩
      · exact Or.inr ⟨q.1, p.2⟩
theorem gr_Wend {E M : Nat → Nat → Prop} (hE : ∀ a b, E a b → a < 8 ∧ b < 8) (h0 : ∀ a b, E a b → M a b) (hs : ∀ a b, a < 8 → b < 8 → M a b → gr_R E a b) (hW : gr_W M 8) {a b : Nat} (ha : a < 8) (hb : b < 8) : M a b ↔ gr_R E a b := by
  refine ⟨hs a b ha hb, fun h => ?_⟩
  have : b < 8 ∧ M a b := by
    refine gr_least h (fun y => y < 8 ∧ M a y) (fun y hy => ⟨(hE _ _ hy).2, h0 _ _ hy⟩) ?_
    rintro x y ⟨hx, hm⟩ hy
    exact ⟨(hE _ _ hy).2, hW a y x ha (hE _ _ hy).2 hx hm (h0 _ _ hy)⟩
  exact this.2
end
section
/-! matching a left side (a list) at place j of the subject S; bindings: 0 unbound, x + 1 bound at x -/
def mt_m (a S : Nat → Nat) : List Nat → Nat → (Nat → Nat) → Option (Nat → Nat)
  | [], _, b => some b
  | t :: l, j, b => if t < 4 then (if S j = t then mt_m a S l (j + 1) b else none)
      else if b t = 0 then mt_m a S l (j + tx_z a S j) (na_u b t (j + 1))
      else if tx_t S (b t - 1) (tx_z a S (b t - 1)) = tx_t S j (tx_z a S (b t - 1)) then mt_m a S l (j + tx_z a S j) b else none
/-- every binding lies within the N cells and is a term there -/
def mt_B (a S : Nat → Nat) (N : Nat) (b : Nat → Nat) : Prop := ∀ v, b v ≠ 0 → b v - 1 < N ∧ tx_T a (tx_t S (b v - 1) (tx_z a S (b v - 1))) ∧ b v - 1 + tx_z a S (b v - 1) ≤ N
theorem mt_ok {a S : Nat → Nat} {N : Nat} (hv : ∀ t, 4 ≤ t → a t = 0) (hN : N ≤ 200) : ∀ l j b b' m n, tx_M a l m 0 → tx_M a (tx_t S j n) m 0 → j + n ≤ N → mt_B a S N b → mt_m a S l j b = some b' →
    mt_B a S N b' ∧ (∀ v, b v ≠ 0 → b' v ≠ 0) ∧ (∀ v, v ∈ l → 4 ≤ v → b' v ≠ 0) := by
  intro l
  induction l with
  | nil =>
    intro j b b' m n _ _ _ hB e
    have e' : some b = some b' := e
    cases e'
    exact ⟨hB, fun _ h => h, fun v h => (nomatch h)⟩
  | cons t l ih =>
    rintro j b b' m n ⟨m0, em, hl⟩ hS hn hB e
    subst em
    have hp : 0 < n := by
      have := tx_M_le _ _ hS
      rw [tx_len] at this
      omega
    have hz := tx_subz (j := 0) hS (by omega) hp
    rw [Nat.add_zero] at hz
    unfold mt_m at e
    by_cases ht : t < 4
    · rw [if_pos ht] at e
      by_cases hs : S j = t
      · rw [if_pos hs] at e
        obtain ⟨n', rfl⟩ : ∃ n', n = n' + 1 := ⟨n - 1, by omega⟩
        obtain ⟨m1, e1, hS'⟩ := hS
        have : m1 = m0 := by omega
        subst this
        rw [hs] at hS'
        obtain ⟨h1, h2, h3⟩ := ih _ _ _ _ _ hl hS' (by omega) hB e
        refine ⟨h1, h2, fun v hm h4 => ?_⟩
        rcases List.mem_cons.mp hm with rfl | hm
        · omega
        · exact h3 v hm h4
      · rw [if_neg hs] at e
        exact absurd e (fun z => nomatch z)
    · rw [if_neg ht] at e
      rw [hv t (by omega), Nat.add_zero] at hl
      have hS2 : ∃ n2, tx_M a (tx_t S (j + tx_z a S j) n2) m0 0 ∧ j + tx_z a S j + n2 ≤ N := by
        have hS1 := hS
        rw [Nat.add_comm m0 1] at hS1
        obtain ⟨n1, n2, en, q1, q2⟩ := tx_sp hS1
        have : tx_z a S j = n1 := tx_z_of q1 (by omega)
        rw [this]
        exact ⟨n2, q2, by omega⟩
      obtain ⟨n2, hS2, hn2⟩ := hS2
      by_cases h0 : b t = 0
      · rw [if_pos h0] at e
        have hB' : mt_B a S N (na_u b t (j + 1)) := by
          intro v hvn
          by_cases hvt : v = t
          · subst hvt
            rw [na_us, Nat.add_sub_cancel]
            exact ⟨by omega, hz.1, by omega⟩
          · rw [na_un hvt] at hvn ⊢
            exact hB v hvn
        obtain ⟨h1, h2, h3⟩ := ih _ _ _ _ _ hl hS2 hn2 hB' e
        refine ⟨h1, fun v hb => h2 v ?_, fun v hm h4 => ?_⟩
        · by_cases hvt : v = t
          · subst hvt; rw [na_us]; omega
          · rw [na_un hvt]; exact hb
        · rcases List.mem_cons.mp hm with rfl | hm
          · exact h2 v (by rw [na_us]; omega)
          · exact h3 v hm h4
      · rw [if_neg h0] at e
        by_cases hs : tx_t S (b t - 1) (tx_z a S (b t - 1)) = tx_t S j (tx_z a S (b t - 1))
        · rw [if_pos hs] at e
          obtain ⟨h1, h2, h3⟩ := ih _ _ _ _ _ hl hS2 hn2 hB e
          refine ⟨h1, h2, fun v hm h4 => ?_⟩
          rcases List.mem_cons.mp hm with rfl | hm
          · exact h2 v h0
          · exact h3 v hm h4
        · rw [if_neg hs] at e
          exact absurd e (fun z => nomatch z)
/-- the right side under a binding -/
def mt_r (a S b : Nat → Nat) : List Nat → List Nat
  | [] => []
  | t :: l => (if t < 4 then [t] else tx_t S (b t - 1) (tx_z a S (b t - 1))) ++ mt_r a S b l
theorem mt_rM {a S b : Nat → Nat} (hv : ∀ t, 4 ≤ t → a t = 0) : ∀ l m m', (∀ v, v ∈ l → 4 ≤ v → tx_T a (tx_t S (b v - 1) (tx_z a S (b v - 1)))) → tx_M a l m m' → tx_M a (mt_r a S b l) m m' := by
  intro l
  induction l with
  | nil => intro m m' _ h; exact h
  | cons t l ih =>
    rintro m m' hb ⟨m0, e, h⟩
    subst e
    have ih' := ih _ _ (fun v hm => hb v (List.mem_cons_of_mem _ hm)) h
    show tx_M a ((if t < 4 then [t] else tx_t S (b t - 1) (tx_z a S (b t - 1))) ++ mt_r a S b l) (m0 + 1) m'
    by_cases ht : t < 4
    · rw [if_pos ht]
      exact ⟨m0, rfl, ih'⟩
    · rw [if_neg ht]
      rw [hv t (by omega), Nat.add_zero] at ih'
      refine (tx_M_app _ _ _ _).mpr ⟨m0, ?_, ih'⟩
      have := tx_M_add _ _ _ m0 (hb t (List.mem_cons_self ..) (by omega))
      rw [Nat.zero_add, Nat.add_comm] at this
      exact this
theorem mt_rlen {a S b : Nat → Nat} (t : Nat) (l : List Nat) : (mt_r a S b (t :: l)).length = (if t < 4 then 1 else tx_z a S (b t - 1)) + (mt_r a S b l).length := by
  show ((if t < 4 then [t] else tx_t S (b t - 1) (tx_z a S (b t - 1))) ++ mt_r a S b l).length = _
  rw [List.length_append]
  by_cases ht : t < 4
  · rw [if_pos ht, if_pos ht]; rfl
  · rw [if_neg ht, if_neg ht, tx_len]
/-- the new subject is a complete term -/
theorem mt_new {a S : Nat → Nat} {N k : Nat} {l : List Nat} (hN : N ≤ 200) (h : tx_T a (tx_t S 0 N)) (hk : k < N) (hl : tx_T a l) :
    tx_T a (tx_t S 0 k ++ (l ++ tx_t S (k + tx_z a S k) (N - (k + tx_z a S k)))) := by
  obtain ⟨z1, z2, z3⟩ := tx_subk h hN (Nat.zero_le k) (by omega)
  have e : tx_t S 0 N = tx_t S 0 k ++ (tx_t S k (tx_z a S k) ++ tx_t S (k + tx_z a S k) (N - (k + tx_z a S k))) := by
    rw [← tx_app]
    have := tx_app S k 0 (tx_z a S k + (N - (k + tx_z a S k)))
    rw [Nat.zero_add] at this
    rw [← this, show k + (tx_z a S k + (N - (k + tx_z a S k))) = N by omega]
  have h' := h
  unfold tx_T at h'
  rw [e] at h'
  obtain ⟨m1, q1, q2⟩ := (tx_M_app _ _ _ _).mp h'
  obtain ⟨m2, q3, q4⟩ := (tx_M_app _ _ _ _).mp q2
  have hm1 : 0 < m1 := by
    cases m1 with
    | zero =>
      have := congrArg List.length (tx_M_zero q3)
      rw [tx_len] at this
      have h5 : ([] : List Nat).length = 0 := rfl
      omega
    | succ m => omega
  have r1 := tx_M_add _ _ _ (m1 - 1) z1
  rw [Nat.zero_add, show 1 + (m1 - 1) = m1 by omega] at r1
  have e2 : m2 = m1 - 1 := tx_M_fun _ _ _ _ q3 r1
  have r2 := tx_M_add _ _ _ (m1 - 1) hl
  rw [Nat.zero_add, show 1 + (m1 - 1) = m1 by omega] at r2
  refine (tx_M_app _ _ _ _).mpr ⟨m1, q1, (tx_M_app _ _ _ _).mpr ⟨m1 - 1, r2, ?_⟩⟩
  rw [← e2]
  exact q4
/-! the first innermost redex -/
def mt_I (rd : Nat → Prop) (E : Nat → Nat) (k : Nat) : Prop := rd k ∧ ∀ i, k < i → i < E k → ¬ rd i
/-- the scan's invariant: best (0 none, b + 1) before i -/
def mt_sc (rd : Nat → Prop) (E : Nat → Nat) (best i : Nat) : Prop :=
  (best = 0 → ∀ k, k < i → ¬ rd k) ∧ (best ≠ 0 → best ≤ i ∧ rd (best - 1) ∧ (∀ k, best ≤ k → k < i → ¬ rd k) ∧ ∀ k, k < best - 1 → ¬ mt_I rd E k)
theorem mt_sc0 {rd : Nat → Prop} {E : Nat → Nat} : mt_sc rd E 0 0 := ⟨fun _ k hk => absurd hk (Nat.not_lt_zero k), fun h => absurd rfl h⟩
theorem mt_scn {rd : Nat → Prop} {E : Nat → Nat} {best i : Nat} (h : mt_sc rd E best i) (hn : ¬ rd i) : mt_sc rd E best (i + 1) := by
  refine ⟨fun e k hk => ?_, fun e => ?_⟩
  · by_cases hki : k = i
    · rw [hki]; exact hn
    · exact h.1 e k (by omega)
  · obtain ⟨h1, h2, h3, h4⟩ := h.2 e
    refine ⟨by omega, h2, fun k hk1 hk2 => ?_, h4⟩
    by_cases hki : k = i
    · rw [hki]; exact hn
    · exact h3 k hk1 (by omega)
theorem mt_scy {rd : Nat → Prop} {E : Nat → Nat} {best i : Nat} (h : mt_sc rd E best i) (hE : best ≠ 0 → i < E (best - 1)) (hy : rd i) : mt_sc rd E (i + 1) (i + 1) := by
  refine ⟨fun e => by omega, fun _ => ⟨Nat.le_refl _, by rw [Nat.add_sub_cancel]; exact hy, fun k h1 h2 => by omega, fun k hk => ?_⟩⟩
  rw [Nat.add_sub_cancel] at hk
  intro hI
  by_cases hb : best = 0
  · exact h.1 hb k hk hI.1
  · obtain ⟨h1, h2, h3, h4⟩ := h.2 hb
    by_cases hk1 : k < best - 1
    · exact h4 k hk1 hI
    · by_cases hk2 : k = best - 1
      · subst hk2
        exact hI.2 i (by omega) (hE hb) hy
      · exact h3 k (by omega) hk hI.1
theorem mt_sce {rd : Nat → Prop} {E : Nat → Nat} {best i : Nat} (h : mt_sc rd E best i) (hb : best ≠ 0) (hE : E (best - 1) ≤ i) : mt_I rd E (best - 1) ∧ ∀ k, k < best - 1 → ¬ mt_I rd E k := by
  obtain ⟨h1, h2, h3, h4⟩ := h.2 hb
  exact ⟨⟨h2, fun k hk1 hk2 => h3 k (by omega) (by omega)⟩, h4⟩
end
section
/-! literals as nI, and the normal form -/
theorem li_0 : (0 : Int32) = nI 0 := rfl
theorem li_1 : (1 : Int32) = nI 1 := rfl
theorem li_2 : (2 : Int32) = nI 2 := rfl
theorem li_3 : (3 : Int32) = nI 3 := rfl
theorem li_4 : (4 : Int32) = nI 4 := rfl
theorem li_5 : (5 : Int32) = nI 5 := rfl
theorem li_6 : (6 : Int32) = nI 6 := rfl
theorem li_7 : (7 : Int32) = nI 7 := rfl
theorem li_8 : (8 : Int32) = nI 8 := rfl
theorem li_11 : (11 : Int32) = nI 11 := rfl
theorem li_15 : (15 : Int32) = nI 15 := rfl
theorem li_16 : (16 : Int32) = nI 16 := rfl
theorem li_24 : (24 : Int32) = nI 24 := rfl
theorem li_32 : (32 : Int32) = nI 32 := rfl
theorem li_112 : (112 : Int32) = nI 112 := rfl
theorem li_144 : (144 : Int32) = nI 144 := rfl
theorem li_152 : (152 : Int32) = nI 152 := rfl
theorem li_160 : (160 : Int32) = nI 160 := rfl
theorem li_192 : (192 : Int32) = nI 192 := rfl
theorem li_240 : (240 : Int32) = nI 240 := rfl
theorem li_255 : (255 : Int32) = nI 255 := rfl
theorem li_256 : (256 : Int32) = nI 256 := rfl
theorem li_272 : (272 : Int32) = nI 272 := rfl
theorem li_280 : (280 : Int32) = nI 280 := rfl
theorem li_288 : (288 : Int32) = nI 288 := rfl
theorem li_1295 : (1295 : Int32) = nI 1295 := rfl
theorem li_1296 : (1296 : Int32) = nI 1296 := rfl
theorem ni_in {n N : Nat} (h : n < 2 ^ 31) : vp_in (nI n) N ↔ n < N := by
  unfold vp_in
  rw [nI_clamp h]
  constructor
  · intro q
    exact Nat.lt_of_not_le fun z => q (Or.inr z)
  · rintro q (z | z)
    · exact nI_pos h z
    · omega
theorem ni_m1 {a : Nat} (h : 1 ≤ a) : nI a + -nI 1 = nI (a - 1) := by
  obtain ⟨b, rfl⟩ : ∃ b, a = b + 1 := ⟨a - 1, by omega⟩
  exact pk_m1 b
theorem ni_m1l {a : Nat} (h : a < 2 ^ 31) : ¬ nI a < nI 0 := nI_pos h
theorem ni_neg : (-nI 1 : Int32) < nI 0 := by decide
theorem ni_negne {a : Nat} (h : a < 2 ^ 31) : ¬ nI a = -nI 1 := by
  intro e
  have := nI_pos h
  rw [e] at this
  exact this ni_neg
theorem ni_nle {a : Nat} (h : a < 2 ^ 31) : ¬ nI a ≤ -nI 1 := by
  intro e
  have h1 := nI_pos h
  rw [Int32.lt_iff_toInt_lt] at h1
  rw [Int32.le_iff_toInt_le] at e
  have h2 : (0 : Int32).toInt = 0 := by decide
  have h3 : (-nI 1 : Int32).toInt = -1 := by decide
  omega
/-- nI 0 - 1 and the like as the loop variable below zero -/
theorem ni_01 : nI 0 - nI 1 = -nI 1 := by decide
theorem ni_01' : nI 0 + -nI 1 = -nI 1 := by decide
/-! bits -/
theorem zb_q {n : Nat} (hn : n < 32) (x : Int32) : ((x >>> (nI n &&& 31)) &&& nI 1) = nI 0 ↔ bt x n = false := by
  constructor
  · intro h
    have := congrArg (fun y => bt y 0) h
    simp only [b_and] at this
    rw [b_sshr n hn x (by omega), if_pos (by omega), Nat.add_zero, show bt (nI 1) 0 = true by decide, show bt (nI 0) 0 = false by decide, Bool.and_true] at this
    exact this
  · intro h
    apply b_ext
    intro i hi
    rw [b_and, show bt (nI 0) i = false from b_0 i]
    cases i with
    | zero => rw [b_sshr n hn x (by omega), if_pos (by omega), Nat.add_zero, h]; rfl
    | succ i => rw [show bt (nI 1) (i + 1) = false from (by decide +kernel : ∀ i, i < 31 → bt (nI 1) (i + 1) = false) i (by omega), Bool.and_false]
theorem zb_q1 {n : Nat} (hn : n < 32) (x : Int32) : ((x >>> (nI n &&& 31)) &&& nI 1) = nI 1 ↔ bt x n = true := by
  constructor
  · intro h
    cases hb : bt x n with
    | true => rfl
    | false =>
      rw [(zb_q hn x).mpr hb] at h
      exact absurd h (by decide)
  · intro h
    apply b_ext
    intro i hi
    rw [b_and]
    cases i with
    | zero => rw [b_sshr n hn x (by omega), if_pos (by omega), Nat.add_zero, h]; rfl
    | succ i => rw [show bt (nI 1) (i + 1) = false from (by decide +kernel : ∀ i, i < 31 → bt (nI 1) (i + 1) = false) i (by omega), Bool.and_false]
theorem zb_v {n : Nat} (hn : n < 32) (x : Int32) : ((x >>> (nI n &&& 31)) &&& nI 1) = nI (if bt x n then 1 else 0) := by
  cases hb : bt x n with
  | true => exact (zb_q1 hn x).mpr hb
  | false => exact (zb_q hn x).mpr hb
theorem zb_one {n : Nat} (hn : n < 32) {i : Nat} (hi : i < 32) : bt (nI 1 <<< (nI n &&& 31)) i = decide (i = n) := by
  rw [b_shl n hn _ hi]
  rcases Nat.lt_trichotomy i n with h | h | h
  · rw [decide_eq_false (show ¬ n ≤ i by omega), decide_eq_false (by omega)]; rfl
  · subst h
    rw [decide_eq_true (Nat.le_refl _), decide_eq_true rfl, Nat.sub_self]
    rfl
  · rw [decide_eq_false (show ¬ i = n by omega), show bt (nI 1) (i - n) = false from by
      obtain ⟨d, hd⟩ : ∃ d, i - n = d + 1 := ⟨i - n - 1, by omega⟩
      rw [hd]
      exact (by decide +kernel : ∀ i, i < 31 → bt (nI 1) (i + 1) = false) d (by omega), Bool.and_false]
theorem zb_bit {n : Nat} (hn : n < 32) {i : Nat} (hi : i < 32) (c : Bool) : bt (nI (if c then 1 else 0) <<< (nI n &&& 31)) i = (c && decide (i = n)) := by
  cases c with
  | true => exact (zb_one hn hi).trans (Bool.true_and _).symm
  | false =>
    rw [b_shl n hn _ hi]
    show (decide (n ≤ i) && bt (nI 0) (i - n)) = false
    rw [show bt (nI 0) (i - n) = false from b_0 _, Bool.and_false]
theorem zb_full : ∀ P, P < 9 → ∀ i, i < 32 → bt ((nI 1 <<< (nI P &&& 31)) - nI 1) i = decide (i < P) := by decide +kernel
theorem zb_all : ∀ i, i < 32 → bt 16777215 i = decide (i < 24) := by decide +kernel
theorem zb_mark : ∀ i, i < 32 → bt 16777216 i = decide (i = 24) := by decide +kernel
theorem zb_0 (i : Nat) : bt (nI 0) i = false := b_0 i
theorem zb_not (x : Int32) {i : Nat} (hi : i < 32) : bt (x ^^^ (-nI 1)) i = !bt x i := by
  rw [b_xor, show bt (-nI 1) i = true from b_m1 i hi, Bool.xor_true]
theorem zb_sub {x y : Int32} : (x &&& (y ^^^ (-nI 1))) = nI 0 ↔ ∀ i, i < 32 → bt x i = true → bt y i = true := by
  constructor
  · intro h i hi hx
    have := congrArg (fun z => bt z i) h
    simp only [b_and] at this
    rw [zb_not _ hi, hx, zb_0, Bool.true_and] at this
    cases hy : bt y i with
    | true => rfl
    | false => rw [hy] at this; exact absurd this (by decide)
  · intro h
    apply b_ext
    intro i hi
    rw [b_and, zb_not _ hi, zb_0]
    cases hx : bt x i with
    | false => rfl
    | true => rw [h i hi hx]; rfl
theorem zb_zero {x : Int32} : x = nI 0 ↔ ∀ i, i < 32 → bt x i = false := by
  constructor
  · intro h i _
    rw [h, zb_0]
  · intro h
    exact b_ext fun i hi => by rw [h i hi, zb_0]
theorem zb_nat (x : Int32) {k : Nat} (hk : k ≤ 31) (h : ∀ i, k ≤ i → i < 32 → bt x i = false) : ∃ n, n < 2 ^ k ∧ x = nI n := by
  have hx : x = nI x.toBitVec.toNat := by
    apply Int32.toBitVec_inj.1
    show x.toBitVec = BitVec.ofNat 32 x.toBitVec.toNat
    simp
  refine ⟨x.toBitVec.toNat, ?_, hx⟩
  apply Nat.lt_of_not_le
  intro hn
  obtain ⟨i, hi, hb⟩ := Nat.exists_ge_and_testBit_of_ge_two_pow hn
  have hi2 : i < 32 := by
    apply Nat.lt_of_not_le
    intro h32
    have := x.toBitVec.isLt
    rw [Nat.testBit_lt_two_pow (Nat.lt_of_lt_of_le this (Nat.pow_le_pow_right (by decide) h32))] at hb
    exact absurd hb (by decide)
  have := h i hi hi2
  unfold bt at this
  rw [← BitVec.testBit_toNat] at this
  rw [this] at hb
  exact absurd hb (by decide)
end
section
section
variable {y_cap y_phase y_rules y_pairs y_lines y_size : Int32} {y_m y_ar y_len y_pairAt y_rec y_digit y_level y_bind y_hide y_gt y_fit y_path : Nat → Int32}
/-! the reference's text methods -/
theorem ni_ms (m a : Nat) : nI (m + 1) + (nI a - nI 1) = nI (m + a) := by
  rw [← nI_add, ← nI_add]
  grind
theorem zy_missing_5 {post : Int32 → Prop} {T q : Nat → Nat} {b n m' : Nat} (hT : ∀ k, T k < 8) (hq : ∀ t, t < 8 → y_ar t = nI (q t)) (hb : b + n ≤ 192) (hp : post (nI m')) :
    ∀ d N i m, d < N → i + d = n → tx_M q (tx_t T (b + i) d) m m' → wY_missing_5 post (nI b) (nI n) y_cap y_phase y_rules y_pairs y_lines y_size (na_F T) y_ar y_len y_pairAt y_rec y_digit y_level y_bind y_hide y_gt y_fit y_path N (nI m) (nI i) := by
  intro d
  induction d with
  | zero =>
    intro N i m hN hi hM
    obtain ⟨N, rfl⟩ : ∃ M, N = M + 1 := ⟨N - 1, by omega⟩
    have e : m = m' := hM
    subst e
    exact br_t (by rw [nI_leI (by omega) (by omega)]; omega) hp
  | succ d ih =>
    intro N i m hN hi hM
    obtain ⟨N, rfl⟩ : ∃ M, N = M + 1 := ⟨N - 1, by omega⟩
    obtain ⟨m0, e, h⟩ := hM
    subst e
    have t1 := hT (b + i)
    have := ih N (i + 1) _ (by omega) (by omega) h
    simp (disch := omega) only [wY_missing_5, li_0, li_1, li_2, li_3, li_4, li_5, li_6, li_7, li_8, li_11, li_15, li_16, li_24, li_32, li_112, li_144, li_152, li_160, li_192, li_240, li_255, li_256, li_272, li_280, li_288, li_1295, li_1296, nI_add, pk_mul, pk_sub, ni_m1, nI_clamp, ni_in, nI_leI, nI_ltI, nI_eq, forall_eq, na_at, na_upd, Nat.zero_add, Nat.add_zero, hq _ t1, ni_ms]
    refine br_f (by omega) ⟨by omega, by omega, ?_⟩
    exact this
theorem zy_missing {post : Int32 → Prop} {T q : Nat → Nat} {b n m' : Nat} (hT : ∀ k, T k < 8) (hq : ∀ t, t < 8 → y_ar t = nI (q t)) (hb : b + n ≤ 192) (hM : tx_M q (tx_t T b n) 1 m') (hp : post (nI m')) :
    wpY_missing post (y_cap, y_phase, y_rules, y_pairs, y_lines, y_size, na_F T, y_ar, y_len, y_pairAt, y_rec, y_digit, y_level, y_bind, y_hide, y_gt, y_fit, y_path) (nI b) (nI n) :=
  ⟨n + 1, zy_missing_5 hT hq hb hp n (n + 1) 0 1 (by omega) (by omega) hM⟩
theorem zy_end_5 {post : Int32 → Prop} {T q : Nat → Nat} {s e : Nat} (hT : ∀ k, T k < 8) (hs : s ≤ 8) (hq : ∀ t, t < 8 → y_ar (s + t) = nI (q t)) (he : e ≤ 192) (hp : post (nI e)) :
    ∀ d N k m, d < N → k + d = e → m < 1000 + 2 * k → (∀ t, q t < 3) → tx_M q (tx_t T k d) m 0 → wY_end_5 post (nI s) y_cap y_phase y_rules y_pairs y_lines y_size (na_F T) y_ar y_len y_pairAt y_rec y_digit y_level y_bind y_hide y_gt y_fit y_path N (nI m) (nI k) := by
  intro d
  induction d with
  | zero =>
    intro N k m hN hk _ _ hM
    obtain ⟨N, rfl⟩ : ∃ M, N = M + 1 := ⟨N - 1, by omega⟩
    have e0 : m = 0 := hM
    subst e0
    have hk' : k = e := by omega
    subst hk'
    refine br_c (fun _ => hp) (fun _ => br_t ?_ hp)
    exact nI_le (b := 0) (by omega) (by omega)
  | succ d ih =>
    intro N k m hN hk hm h3 hM
    obtain ⟨N, rfl⟩ : ∃ M, N = M + 1 := ⟨N - 1, by omega⟩
    obtain ⟨m0, e, h⟩ := hM
    subst e
    have t1 := hT k
    have t3 := h3 (T k)
    have := ih N (k + 1) _ (by omega) (by omega) (by omega) h3 h
    simp (disch := omega) only [wY_end_5, li_0, li_1, li_2, li_3, li_4, li_5, li_6, li_7, li_8, li_11, li_15, li_16, li_24, li_32, li_112, li_144, li_152, li_160, li_192, li_240, li_255, li_256, li_272, li_280, li_288, li_1295, li_1296, nI_add, pk_mul, pk_sub, ni_m1, nI_clamp, ni_in, nI_leI, nI_ltI, nI_eq, forall_eq, na_at, na_upd, Nat.zero_add, Nat.add_zero, hq _ t1, ni_ms]
    refine br_f (by omega) (br_f (by omega) ⟨by omega, by omega, ?_⟩)
    exact this
theorem zy_end0 {post : Int32 → Prop} {T q : Nat → Nat} {k n : Nat} (hT : ∀ k, T k < 8) (hq : ∀ t, t < 8 → y_ar t = nI (q t)) (h3 : ∀ t, q t < 3) (hb : k + n ≤ 192) (hM : tx_T q (tx_t T k n)) (hp : post (nI (k + n))) :
    wpY_end post (y_cap, y_phase, y_rules, y_pairs, y_lines, y_size, na_F T, y_ar, y_len, y_pairAt, y_rec, y_digit, y_level, y_bind, y_hide, y_gt, y_fit, y_path) (nI k) 0 :=
  ⟨n + 1, zy_end_5 (s := 0) hT (by omega) (fun t ht => by rw [Nat.zero_add]; exact hq t ht) hb hp n (n + 1) k 1 (by omega) rfl (by omega) h3 hM⟩
theorem zy_end8 {post : Int32 → Prop} {T q : Nat → Nat} {k n : Nat} (hT : ∀ k, T k < 8) (hq : ∀ t, t < 8 → y_ar (8 + t) = nI (q t)) (h3 : ∀ t, q t < 3) (hb : k + n ≤ 192) (hM : tx_T q (tx_t T k n)) (hp : post (nI (k + n))) :
    wpY_end post (y_cap, y_phase, y_rules, y_pairs, y_lines, y_size, na_F T, y_ar, y_len, y_pairAt, y_rec, y_digit, y_level, y_bind, y_hide, y_gt, y_fit, y_path) (nI k) 8 :=
  ⟨n + 1, zy_end_5 (s := 8) hT (by omega) hq hb hp n (n + 1) k 1 (by omega) rfl (by omega) h3 hM⟩
theorem zy_same_13 {post : Int32 → Prop} {T : Nat → Nat} {x y n : Nat} (hT : ∀ k, T k < 8) (hx : x + n ≤ 192) (hy : y + n ≤ 192)
    (h1 : tx_t T x n = tx_t T y n → post 1) (h0 : tx_t T x n ≠ tx_t T y n → post 0) :
    ∀ d N i, d < N → i + d = n → (∀ j, j < i → T (x + j) = T (y + j)) → wY_same_13 post (nI x) (nI y) (nI n) y_cap y_phase y_rules y_pairs y_lines y_size (na_F T) y_ar y_len y_pairAt y_rec y_digit y_level y_bind y_hide y_gt y_fit y_path N (nI i) := by
  intro d
  induction d with
  | zero =>
    intro N i hN hi hj
    obtain ⟨N, rfl⟩ : ∃ M, N = M + 1 := ⟨N - 1, by omega⟩
    refine br_t (by rw [nI_leI (by omega) (by omega)]; omega) (h1 (tx_congr fun j hjn => hj j (by omega)))
  | succ d ih =>
    intro N i hN hi hj
    obtain ⟨N, rfl⟩ : ∃ M, N = M + 1 := ⟨N - 1, by omega⟩
    have t1 := hT (x + i)
    have t2 := hT (y + i)
    have := ih N (i + 1) (by omega) (by omega)
    simp (disch := omega) only [wY_same_13, li_0, li_1, li_2, li_3, li_4, li_5, li_6, li_7, li_8, li_11, li_15, li_16, li_24, li_32, li_112, li_144, li_152, li_160, li_192, li_240, li_255, li_256, li_272, li_280, li_288, li_1295, li_1296, nI_add, pk_mul, pk_sub, ni_m1, nI_clamp, ni_in, nI_leI, nI_ltI, nI_eq, forall_eq, na_at, na_upd, Nat.zero_add, Nat.add_zero]
    refine br_f (by omega) ⟨by omega, by omega, br_c (fun e => this ?_) (fun e => h0 ?_)⟩
    · intro j hji
      by_cases hj2 : j = i
      · rw [hj2]; exact e
      · exact hj j (by omega)
    · intro z
      exact e ((tx_eq n x y).mp z i (by omega))
theorem zy_same0 {post : Int32 → Prop} {T q : Nat → Nat} {x y n : Nat} (hT : ∀ k, T k < 8) (hq : ∀ t, t < 8 → y_ar t = nI (q t)) (h3 : ∀ t, q t < 3) (hx : x + n ≤ 192) (hy : y + n ≤ 192) (hM : tx_T q (tx_t T x n))
    (h1 : tx_t T x n = tx_t T y n → post 1) (h0 : tx_t T x n ≠ tx_t T y n → post 0) : wpY_same post (y_cap, y_phase, y_rules, y_pairs, y_lines, y_size, na_F T, y_ar, y_len, y_pairAt, y_rec, y_digit, y_level, y_bind, y_hide, y_gt, y_fit, y_path) (nI x) (nI y) 0 := by
  unfold wpY_same
  refine zy_end0 hT hq h3 hx hM ?_
  refine nm_r (e' := nI n) (by rw [pk_sub (by omega)]; congr 1; omega) ?_
  exact ⟨n + 1, zy_same_13 hT hx hy h1 h0 n (n + 1) 0 (by omega) (by omega) (fun j hj => by omega)⟩
theorem zy_same8 {post : Int32 → Prop} {T q : Nat → Nat} {x y n : Nat} (hT : ∀ k, T k < 8) (hq : ∀ t, t < 8 → y_ar (8 + t) = nI (q t)) (h3 : ∀ t, q t < 3) (hx : x + n ≤ 192) (hy : y + n ≤ 192) (hM : tx_T q (tx_t T x n))
    (h1 : tx_t T x n = tx_t T y n → post 1) (h0 : tx_t T x n ≠ tx_t T y n → post 0) : wpY_same post (y_cap, y_phase, y_rules, y_pairs, y_lines, y_size, na_F T, y_ar, y_len, y_pairAt, y_rec, y_digit, y_level, y_bind, y_hide, y_gt, y_fit, y_path) (nI x) (nI y) 8 := by
  unfold wpY_same
  refine zy_end8 hT hq h3 hx hM ?_
  refine nm_r (e' := nI n) (by rw [pk_sub (by omega)]; congr 1; omega) ?_
  exact ⟨n + 1, zy_same_13 hT hx hy h1 h0 n (n + 1) 0 (by omega) (by omega) (fun j hj => by omega)⟩
/-- a symbol is defined: the root of some left side -/
def zd_D (T : Nat → Nat) (R t : Nat) : Prop := ∃ r, r < R ∧ T (16 * r) = t
theorem zy_defined {post : Int32 → Prop} {T : Nat → Nat} {R t : Nat} (hT : ∀ k, T k < 8) (hR : R ≤ 7) (ht : t < 8) (h1 : zd_D T R t → post 1) (h0 : ¬ zd_D T R t → post 0) :
    wpY_defined post (y_cap, y_phase, nI R, y_pairs, y_lines, y_size, na_F T, y_ar, y_len, y_pairAt, y_rec, y_digit, y_level, y_bind, y_hide, y_gt, y_fit, y_path) (nI t) := by
  have key : ∀ d N i, d < N → i + d = R → (∀ r, r < i → T (16 * r) ≠ t) → wY_defined_2 post (nI t) y_cap y_phase (nI R) y_pairs y_lines y_size (na_F T) y_ar y_len y_pairAt y_rec y_digit y_level y_bind y_hide y_gt y_fit y_path N (nI i) := by
    intro d
    induction d with
    | zero =>
      intro N i hN hi hj
      obtain ⟨N, rfl⟩ : ∃ M, N = M + 1 := ⟨N - 1, by omega⟩
      exact br_t (by rw [nI_leI (by omega) (by omega)]; omega) (h0 fun ⟨r, hr, e⟩ => hj r (by omega) e)
    | succ d ih =>
      intro N i hN hi hj
      obtain ⟨N, rfl⟩ : ∃ M, N = M + 1 := ⟨N - 1, by omega⟩
      have t1 := hT (16 * i)
      have := ih N (i + 1) (by omega) (by omega)
      simp (disch := omega) only [wY_defined_2, li_0, li_1, li_2, li_3, li_4, li_5, li_6, li_7, li_8, li_11, li_15, li_16, li_24, li_32, li_112, li_144, li_152, li_160, li_192, li_240, li_255, li_256, li_272, li_280, li_288, li_1295, li_1296, nI_add, pk_mul, pk_sub, ni_m1, nI_clamp, ni_in, nI_leI, nI_ltI, nI_eq, forall_eq, na_at, na_upd, Nat.zero_add, Nat.add_zero]
      refine br_f (by omega) ⟨by omega, br_c (fun e => h1 ⟨i, by omega, e⟩) (fun e => this ?_)⟩
      intro r hr
      by_cases hri : r = i
      · rw [hri]; exact e
      · exact hj r (by omega)
  exact ⟨R + 1, key R (R + 1) 0 (by omega) (by omega) (fun r hr => by omega)⟩
theorem zy_copy_3 {post : Int32 → SY → Prop} {a e b : Nat} (ha : a ≤ e) (he : e ≤ 192) (hb : b + (e - a) ≤ 192) (hd : b + (e - a) ≤ a ∨ e ≤ b) {T : Nat → Nat}
    (hp : ∀ T', (∀ j, T' j = if b ≤ j ∧ j < b + (e - a) then T (a + (j - b)) else T j) → post (nI (b + (e - a))) (y_cap, y_phase, y_rules, y_pairs, y_lines, y_size, na_F T', y_ar, y_len, y_pairAt, y_rec, y_digit, y_level, y_bind, y_hide, y_gt, y_fit, y_path)) :
    ∀ d N i T1, d < N → i + d = e → a ≤ i → (∀ j, T1 j = if b ≤ j ∧ j < b + (i - a) then T (a + (j - b)) else T j) → wY_copy_3 post (nI a) (nI e) (nI b) y_cap y_phase y_rules y_pairs y_lines y_size N (nI i) (na_F T1) y_ar y_len y_pairAt y_rec y_digit y_level y_bind y_hide y_gt y_fit y_path := by
  intro d
  induction d with
  | zero =>
    intro N i T1 hN hi hai h1
    obtain ⟨N, rfl⟩ : ∃ M, N = M + 1 := ⟨N - 1, by omega⟩
    have hie : i = e := by omega
    subst hie
    simp (disch := omega) only [wY_copy_3, li_0, li_1, li_2, li_3, li_4, li_5, li_6, li_7, li_8, li_11, li_15, li_16, li_24, li_32, li_112, li_144, li_152, li_160, li_192, li_240, li_255, li_256, li_272, li_280, li_288, li_1295, li_1296, nI_add, pk_mul, pk_sub, ni_m1, nI_clamp, ni_in, nI_leI, nI_ltI, nI_eq, forall_eq, na_at, na_upd, Nat.zero_add, Nat.add_zero]
    refine br_t (by omega) ?_
    rw [show b + i - a = b + (i - a) by omega]
    exact hp T1 h1
  | succ d ih =>
    intro N i T1 hN hi hai h1
    obtain ⟨N, rfl⟩ : ∃ M, N = M + 1 := ⟨N - 1, by omega⟩
    have := ih N (i + 1) (na_u T1 (b + i - a) (T1 i)) (by omega) (by omega) (by omega) ?_
    · simp (disch := omega) only [wY_copy_3, li_0, li_1, li_2, li_3, li_4, li_5, li_6, li_7, li_8, li_11, li_15, li_16, li_24, li_32, li_112, li_144, li_152, li_160, li_192, li_240, li_255, li_256, li_272, li_280, li_288, li_1295, li_1296, nI_add, pk_mul, pk_sub, ni_m1, nI_clamp, ni_in, nI_leI, nI_ltI, nI_eq, forall_eq, na_at, na_upd, Nat.zero_add, Nat.add_zero]
      exact br_f (by omega) ⟨by omega, by omega, this⟩
    · intro j
      have e1 : T1 i = T i := by rw [h1, if_neg (by omega)]
      by_cases hj : j = b + i - a
      · subst hj
        rw [na_us, if_pos (by omega), e1]
        congr 1
        omega
      · rw [na_un hj, h1]
        by_cases hj2 : b ≤ j ∧ j < b + (i - a)
        · rw [if_pos hj2, if_pos (by omega)]
        · rw [if_neg hj2, if_neg (by omega)]
theorem zy_copy {post : Int32 → SY → Prop} {a e b : Nat} (ha : a ≤ e) (he : e ≤ 192) (hb : b + (e - a) ≤ 192) (hd : b + (e - a) ≤ a ∨ e ≤ b) {T : Nat → Nat}
    (hp : ∀ T', (∀ j, T' j = if b ≤ j ∧ j < b + (e - a) then T (a + (j - b)) else T j) → post (nI (b + (e - a))) (y_cap, y_phase, y_rules, y_pairs, y_lines, y_size, na_F T', y_ar, y_len, y_pairAt, y_rec, y_digit, y_level, y_bind, y_hide, y_gt, y_fit, y_path)) :
    wpY_copy post (y_cap, y_phase, y_rules, y_pairs, y_lines, y_size, na_F T, y_ar, y_len, y_pairAt, y_rec, y_digit, y_level, y_bind, y_hide, y_gt, y_fit, y_path) (nI a) (nI e) (nI b) :=
  ⟨e - a + 1, zy_copy_3 ha he hb hd hp (e - a) _ a T (by omega) (by omega) (by omega) (fun j => by rw [if_neg (by omega)])⟩
end
end
section
section
variable {x_pairSlot x_subjectBase x_filteredLeft x_filteredRight x_scratch x_allOrders x_equalMark x_termCells x_phase x_ruleCount x_pairCount x_lineCount x_defined x_openSide x_openMissing x_subjectLength x_subjectMissing : Int32} {x_tok x_end x_cut x_length x_precedences x_above x_greater x_relation x_arity x_shape x_kept x_bound x_links x_lines : Nat → Int32}
/-! the component's text methods -/
theorem ni_dn {b : Nat} (h : b < 2 ^ 31) : nI b - nI 1 < nI b := by
  cases b with
  | zero => decide
  | succ b =>
    rw [pk_sub (by omega)]
    exact nI_lt (by omega) h
theorem ni_pm (b : Nat) : nI b + -nI 1 = nI b - nI 1 := (Int32.sub_eq_add_neg _ _).symm
theorem zx_me55 {post : SX → Prop} {J7 : Int32 → (Nat → Int32) → (Nat → Int32) → (Nat → Int32) → (Nat → Int32) → (Nat → Int32) → (Nat → Int32) → (Nat → Int32) → (Nat → Int32) → (Nat → Int32) → (Nat → Int32) → (Nat → Int32) → (Nat → Int32) → (Nat → Int32) → (Nat → Int32) → Prop} {x1 x3 : Int32} {en : Nat → Nat} {P : Nat → Nat} {k A : Nat} (hk : k < 320) (hA : A < 3) (hP : ∀ g, g < A → P g < 320 ∧ en (P g) = P (g + 1))
    (hJ : J7 (nI k - nI 1) x_tok (na_F (na_u en k (P A))) x_cut x_length x_precedences x_above x_greater x_relation x_arity x_shape x_kept x_bound x_links x_lines) :
    ∀ d N g, d < N → g + d = A → wX_markEnds_55 post J7 x1 x3 (nI k) (nI A) x_pairSlot x_subjectBase x_filteredLeft x_filteredRight x_scratch x_allOrders x_equalMark x_termCells x_phase x_ruleCount x_pairCount x_lineCount x_defined x_openSide x_openMissing x_subjectLength x_subjectMissing x_tok (na_F en) x_cut x_length x_precedences x_above x_greater x_relation x_arity x_shape x_kept x_bound x_links x_lines N (nI (P g)) (nI g) := by
  intro d
  induction d with
  | zero =>
    intro N g hN hg
    obtain ⟨N, rfl⟩ : ∃ M, N = M + 1 := ⟨N - 1, by omega⟩
    have e : g = A := by omega
    subst e
    simp (disch := omega) only [wX_markEnds_55, li_0, li_1, li_2, li_3, li_4, li_5, li_6, li_7, li_8, li_11, li_15, li_16, li_24, li_32, li_112, li_144, li_152, li_160, li_192, li_240, li_255, li_256, li_272, li_280, li_288, li_1295, li_1296, nI_add, pk_mul, pk_sub, ni_m1, nI_clamp, ni_in, nI_leI, nI_ltI, nI_eq, forall_eq, na_at, na_upd, Nat.zero_add, Nat.add_zero, ni_pm]
    exact br_t (by omega) ⟨by omega, hJ⟩
  | succ d ih =>
    intro N g hN hg
    obtain ⟨N, rfl⟩ : ∃ M, N = M + 1 := ⟨N - 1, by omega⟩
    obtain ⟨p1, p2⟩ := hP g (by omega)
    have := ih N (g + 1) (by omega) (by omega)
    simp (disch := omega) only [wX_markEnds_55, li_0, li_1, li_2, li_3, li_4, li_5, li_6, li_7, li_8, li_11, li_15, li_16, li_24, li_32, li_112, li_144, li_152, li_160, li_192, li_240, li_255, li_256, li_272, li_280, li_288, li_1295, li_1296, nI_add, pk_mul, pk_sub, ni_m1, nI_clamp, ni_in, nI_leI, nI_ltI, nI_eq, forall_eq, na_at, na_upd, Nat.zero_add, Nat.add_zero, ni_pm, p2]
    exact br_f (by omega) ⟨by omega, this⟩
theorem zx_me7 {post : SX → Prop} {x3 : Int32} {T q en0 : Nat → Nat} {b n : Nat} (hT : ∀ k, T k < 8) (h3 : ∀ t, q t < 3)
    (hq : ∀ t, t < 8 → (x3 = 0 → x_arity t = nI (q t)) ∧ (¬ x3 = 0 → x_kept t = nI (q t))) (hb : b + n ≤ 320) (hn : n ≤ 200) (hC : tx_T q (tx_t T b n))
    (hp : ∀ en', (∀ k, b ≤ k → k < b + n → en' k = k + tx_z q T k) → (∀ k, k < b ∨ b + n ≤ k → en' k = en0 k) → post (x_pairSlot, x_subjectBase, x_filteredLeft, x_filteredRight, x_scratch, x_allOrders, x_equalMark, x_termCells, x_phase, x_ruleCount, x_pairCount, x_lineCount, x_defined, x_openSide, x_openMissing, x_subjectLength, x_subjectMissing, na_F T, na_F en', x_cut, x_length, x_precedences, x_above, x_greater, x_relation, x_arity, x_shape, x_kept, x_bound, x_links, x_lines)) :
    ∀ i N en, i < N → i ≤ n → (∀ k, b + i ≤ k → k < b + n → en k = k + tx_z q T k) → (∀ k, k < b ∨ b + n ≤ k → en k = en0 k) →
      wX_markEnds_7 post (nI b) x3 x_pairSlot x_subjectBase x_filteredLeft x_filteredRight x_scratch x_allOrders x_equalMark x_termCells x_phase x_ruleCount x_pairCount x_lineCount x_defined x_openSide x_openMissing x_subjectLength x_subjectMissing N (nI (b + i) - nI 1) (na_F T) (na_F en) x_cut x_length x_precedences x_above x_greater x_relation x_arity x_shape x_kept x_bound x_links x_lines := by
  intro i
  induction i with
  | zero =>
    intro N en hN hi h1 h2
    obtain ⟨N, rfl⟩ : ∃ M, N = M + 1 := ⟨N - 1, by omega⟩
    exact br_t (ni_dn (by omega)) (hp en (fun k hk1 hk2 => h1 k (by omega) hk2) h2)
  | succ i ih =>
    intro N en hN hi h1 h2
    obtain ⟨N, rfl⟩ : ∃ M, N = M + 1 := ⟨N - 1, by omega⟩
    have t1 := hT (b + i)
    obtain ⟨z1, z2, z3⟩ := tx_subk hC hn (show b ≤ b + i by omega) (by omega)
    have key : ∀ N', 3 ≤ N' → wX_markEnds_55 post (wX_markEnds_7 post (nI b) x3 x_pairSlot x_subjectBase x_filteredLeft x_filteredRight x_scratch x_allOrders x_equalMark x_termCells x_phase x_ruleCount x_pairCount x_lineCount x_defined x_openSide x_openMissing x_subjectLength x_subjectMissing N) (nI b) x3 (nI (b + i)) (nI (q (T (b + i)))) x_pairSlot x_subjectBase x_filteredLeft x_filteredRight x_scratch x_allOrders x_equalMark x_termCells x_phase x_ruleCount x_pairCount x_lineCount x_defined x_openSide x_openMissing x_subjectLength x_subjectMissing (na_F T) (na_F en) x_cut x_length x_precedences x_above x_greater x_relation x_arity x_shape x_kept x_bound x_links x_lines N' (nI (b + i + 1)) (nI 0) := by
      intro N' hN'
      have h3' := h3 (T (b + i))
      refine zx_me55 (P := tx_g q T (b + i)) (by omega) h3' ?_ ?_ (q (T (b + i))) N' 0 (by omega) (by omega)
      · intro g hg
        obtain ⟨a1, a2, a3, a4, a5⟩ := tx_args z1 (by omega) hg
        refine ⟨by omega, ?_⟩
        exact h1 _ (by omega) (by omega)
      · refine ih N _ (by omega) (by omega) ?_ ?_
        · intro k hk1 hk2
          by_cases hk : k = b + i
          · subst hk
            rw [na_us]
            exact tx_arge z1 (by omega)
          · rw [na_un hk]
            exact h1 k (by omega) hk2
        · intro k hk
          rw [na_un (by omega)]
          exact h2 k hk
    rw [pk_sub (by omega), show b + (i + 1) - 1 = b + i by omega]
    by_cases hx : x3 = 0
    · have e1 := (hq _ t1).1 hx
      simp (disch := omega) only [wX_markEnds_7, li_0, li_1, li_2, li_3, li_4, li_5, li_6, li_7, li_8, li_11, li_15, li_16, li_24, li_32, li_112, li_144, li_152, li_160, li_192, li_240, li_255, li_256, li_272, li_280, li_288, li_1295, li_1296, nI_add, pk_mul, pk_sub, ni_m1, nI_clamp, ni_in, nI_leI, nI_ltI, nI_eq, forall_eq, na_at, na_upd, Nat.zero_add, Nat.add_zero, e1]
      refine br_f (by omega) (br_t hx ⟨by omega, by omega, 3, ?_⟩)
      exact key 3 (by omega)
    · have e1 := (hq _ t1).2 hx
      simp (disch := omega) only [wX_markEnds_7, li_0, li_1, li_2, li_3, li_4, li_5, li_6, li_7, li_8, li_11, li_15, li_16, li_24, li_32, li_112, li_144, li_152, li_160, li_192, li_240, li_255, li_256, li_272, li_280, li_288, li_1295, li_1296, nI_add, pk_mul, pk_sub, ni_m1, nI_clamp, ni_in, nI_leI, nI_ltI, nI_eq, forall_eq, na_at, na_upd, Nat.zero_add, Nat.add_zero, e1]
      refine br_f (by omega) (br_f hx ⟨by omega, by omega, 3, ?_⟩)
      exact key 3 (by omega)
theorem zx_markEnds {post : SX → Prop} {x3 : Int32} {T q en : Nat → Nat} {b n : Nat} (hT : ∀ k, T k < 8) (h3 : ∀ t, q t < 3)
    (hq : ∀ t, t < 8 → (x3 = 0 → x_arity t = nI (q t)) ∧ (¬ x3 = 0 → x_kept t = nI (q t))) (hb : b + n ≤ 320) (hn : n ≤ 200) (hC : tx_T q (tx_t T b n))
    (hp : ∀ en', (∀ k, b ≤ k → k < b + n → en' k = k + tx_z q T k) → (∀ k, k < b ∨ b + n ≤ k → en' k = en k) → post (x_pairSlot, x_subjectBase, x_filteredLeft, x_filteredRight, x_scratch, x_allOrders, x_equalMark, x_termCells, x_phase, x_ruleCount, x_pairCount, x_lineCount, x_defined, x_openSide, x_openMissing, x_subjectLength, x_subjectMissing, na_F T, na_F en', x_cut, x_length, x_precedences, x_above, x_greater, x_relation, x_arity, x_shape, x_kept, x_bound, x_links, x_lines)) :
    wpX_markEnds post (x_pairSlot, x_subjectBase, x_filteredLeft, x_filteredRight, x_scratch, x_allOrders, x_equalMark, x_termCells, x_phase, x_ruleCount, x_pairCount, x_lineCount, x_defined, x_openSide, x_openMissing, x_subjectLength, x_subjectMissing, na_F T, na_F en, x_cut, x_length, x_precedences, x_above, x_greater, x_relation, x_arity, x_shape, x_kept, x_bound, x_links, x_lines) (nI b) (nI n) x3 := by
  unfold wpX_markEnds
  refine nm_r (e' := nI (b + n) - nI 1) (by rw [nI_add]; rfl) ?_
  exact ⟨n + 1, zx_me7 hT h3 hq hb hn hC hp n (n + 1) en (by omega) (by omega) (fun k h1 h2 => by omega) (fun _ _ => rfl)⟩
theorem zx_same_26 {post : Int32 → Prop} {T : Nat → Nat} {x y n : Nat} (hT : ∀ k, T k < 8) (hx : x + n ≤ 320) (hy : y + n ≤ 320)
    (h1 : tx_t T x n = tx_t T y n → post 1) (h0 : tx_t T x n ≠ tx_t T y n → post 0) :
    ∀ d N i, d < N → i + d = n → (∀ j, j < i → T (x + j) = T (y + j)) → wX_sameTerm_26 post (nI x) (nI y) (nI n) x_pairSlot x_subjectBase x_filteredLeft x_filteredRight x_scratch x_allOrders x_equalMark x_termCells x_phase x_ruleCount x_pairCount x_lineCount x_defined x_openSide x_openMissing x_subjectLength x_subjectMissing (na_F T) x_end x_cut x_length x_precedences x_above x_greater x_relation x_arity x_shape x_kept x_bound x_links x_lines N (nI i) := by
  intro d
  induction d with
  | zero =>
    intro N i hN hi hj
    obtain ⟨N, rfl⟩ : ∃ M, N = M + 1 := ⟨N - 1, by omega⟩
    refine br_t (by rw [nI_leI (by omega) (by omega)]; omega) (h1 (tx_congr fun j hjn => hj j (by omega)))
  | succ d ih =>
    intro N i hN hi hj
    obtain ⟨N, rfl⟩ : ∃ M, N = M + 1 := ⟨N - 1, by omega⟩
    have t1 := hT (x + i)
    have t2 := hT (y + i)
    have := ih N (i + 1) (by omega) (by omega)
    simp (disch := omega) only [wX_sameTerm_26, li_0, li_1, li_2, li_3, li_4, li_5, li_6, li_7, li_8, li_11, li_15, li_16, li_24, li_32, li_112, li_144, li_152, li_160, li_192, li_240, li_255, li_256, li_272, li_280, li_288, li_1295, li_1296, nI_add, pk_mul, pk_sub, ni_m1, nI_clamp, ni_in, nI_leI, nI_ltI, nI_eq, forall_eq, na_at, na_upd, Nat.zero_add, Nat.add_zero]
    refine br_f (by omega) ⟨by omega, by omega, br_c (fun e => this ?_) (fun e => h0 ?_)⟩
    · intro j hji
      by_cases hj2 : j = i
      · rw [hj2]; exact e
      · exact hj j (by omega)
    · intro z
      exact e ((tx_eq n x y).mp z i (by omega))
theorem zx_same {post : Int32 → Prop} {T q en : Nat → Nat} {x y n n' : Nat} (hT : ∀ k, T k < 8) (hx : x + n ≤ 320) (hy : y + n' ≤ 320) (hn : n ≤ 200) (hn' : n' ≤ 200)
    (ex : en x = x + n) (ey : en y = y + n') (hM : tx_T q (tx_t T x n)) (hM' : tx_T q (tx_t T y n'))
    (h1 : tx_t T x n = tx_t T y n → post 1) (h0 : tx_t T x n ≠ tx_t T y n → post 0) : wpX_sameTerm post (x_pairSlot, x_subjectBase, x_filteredLeft, x_filteredRight, x_scratch, x_allOrders, x_equalMark, x_termCells, x_phase, x_ruleCount, x_pairCount, x_lineCount, x_defined, x_openSide, x_openMissing, x_subjectLength, x_subjectMissing, na_F T, na_F en, x_cut, x_length, x_precedences, x_above, x_greater, x_relation, x_arity, x_shape, x_kept, x_bound, x_links, x_lines) (nI x) (nI y) := by
  have p1 : 0 < n := by have := tx_T_pos hM; rw [tx_len] at this; exact this
  have p2 : 0 < n' := by have := tx_T_pos hM'; rw [tx_len] at this; exact this
  unfold wpX_sameTerm
  simp (disch := omega) only [li_0, li_1, li_2, li_3, li_4, li_5, li_6, li_7, li_8, li_11, li_15, li_16, li_24, li_32, li_112, li_144, li_152, li_160, li_192, li_240, li_255, li_256, li_272, li_280, li_288, li_1295, li_1296, nI_add, pk_mul, pk_sub, ni_m1, nI_clamp, ni_in, nI_leI, nI_ltI, nI_eq, forall_eq, na_at, na_upd, Nat.zero_add, Nat.add_zero, ex, ey]
  refine ⟨by omega, by omega, ?_⟩
  rw [show x + n - x = n by omega, show y + n' - y = n' by omega]
  by_cases e : n' = n
  · subst e
    exact br_t rfl ⟨n' + 1, zx_same_26 hT hx hy h1 h0 n' (n' + 1) 0 (by omega) (by omega) (fun j hj => by omega)⟩
  · refine br_f e (h0 fun z => e ?_)
    rw [z] at hM
    have a1 := tx_z_of hM hn
    have a2 := tx_z_of hM' hn'
    omega
theorem zx_copy_3 {post : Int32 → SX → Prop} {a e b : Nat} (ha : a ≤ e) (he : e ≤ 320) (hb : b + (e - a) ≤ 320) (hd : b + (e - a) ≤ a ∨ e ≤ b) {T : Nat → Nat}
    (hp : ∀ T', (∀ j, T' j = if b ≤ j ∧ j < b + (e - a) then T (a + (j - b)) else T j) → post (nI (b + (e - a))) (x_pairSlot, x_subjectBase, x_filteredLeft, x_filteredRight, x_scratch, x_allOrders, x_equalMark, x_termCells, x_phase, x_ruleCount, x_pairCount, x_lineCount, x_defined, x_openSide, x_openMissing, x_subjectLength, x_subjectMissing, na_F T', x_end, x_cut, x_length, x_precedences, x_above, x_greater, x_relation, x_arity, x_shape, x_kept, x_bound, x_links, x_lines)) :
    ∀ d N i T1, d < N → i + d = e → a ≤ i → (∀ j, T1 j = if b ≤ j ∧ j < b + (i - a) then T (a + (j - b)) else T j) → wX_copy_3 post (nI a) (nI e) (nI b) x_pairSlot x_subjectBase x_filteredLeft x_filteredRight x_scratch x_allOrders x_equalMark x_termCells x_phase x_ruleCount x_pairCount x_lineCount x_defined x_openSide x_openMissing x_subjectLength x_subjectMissing N (nI i) (na_F T1) x_end x_cut x_length x_precedences x_above x_greater x_relation x_arity x_shape x_kept x_bound x_links x_lines := by
  intro d
  induction d with
  | zero =>
    intro N i T1 hN hi hai h1
    obtain ⟨N, rfl⟩ : ∃ M, N = M + 1 := ⟨N - 1, by omega⟩
    have hie : i = e := by omega
    subst hie
    simp (disch := omega) only [wX_copy_3, li_0, li_1, li_2, li_3, li_4, li_5, li_6, li_7, li_8, li_11, li_15, li_16, li_24, li_32, li_112, li_144, li_152, li_160, li_192, li_240, li_255, li_256, li_272, li_280, li_288, li_1295, li_1296, nI_add, pk_mul, pk_sub, ni_m1, nI_clamp, ni_in, nI_leI, nI_ltI, nI_eq, forall_eq, na_at, na_upd, Nat.zero_add, Nat.add_zero]
    refine br_t (by omega) ?_
    rw [show b + i - a = b + (i - a) by omega]
    exact hp T1 h1
  | succ d ih =>
    intro N i T1 hN hi hai h1
    obtain ⟨N, rfl⟩ : ∃ M, N = M + 1 := ⟨N - 1, by omega⟩
    have := ih N (i + 1) (na_u T1 (b + i - a) (T1 i)) (by omega) (by omega) (by omega) ?_
    · simp (disch := omega) only [wX_copy_3, li_0, li_1, li_2, li_3, li_4, li_5, li_6, li_7, li_8, li_11, li_15, li_16, li_24, li_32, li_112, li_144, li_152, li_160, li_192, li_240, li_255, li_256, li_272, li_280, li_288, li_1295, li_1296, nI_add, pk_mul, pk_sub, ni_m1, nI_clamp, ni_in, nI_leI, nI_ltI, nI_eq, forall_eq, na_at, na_upd, Nat.zero_add, Nat.add_zero]
      exact br_f (by omega) ⟨by omega, by omega, this⟩
    · intro j
      have e1 : T1 i = T i := by rw [h1, if_neg (by omega)]
      by_cases hj : j = b + i - a
      · subst hj
        rw [na_us, if_pos (by omega), e1]
        congr 1
        omega
      · rw [na_un hj, h1]
        by_cases hj2 : b ≤ j ∧ j < b + (i - a)
        · rw [if_pos hj2, if_pos (by omega)]
        · rw [if_neg hj2, if_neg (by omega)]
theorem zx_copy {post : Int32 → SX → Prop} {a e b : Nat} (ha : a ≤ e) (he : e ≤ 320) (hb : b + (e - a) ≤ 320) (hd : b + (e - a) ≤ a ∨ e ≤ b) {T : Nat → Nat}
    (hp : ∀ T', (∀ j, T' j = if b ≤ j ∧ j < b + (e - a) then T (a + (j - b)) else T j) → post (nI (b + (e - a))) (x_pairSlot, x_subjectBase, x_filteredLeft, x_filteredRight, x_scratch, x_allOrders, x_equalMark, x_termCells, x_phase, x_ruleCount, x_pairCount, x_lineCount, x_defined, x_openSide, x_openMissing, x_subjectLength, x_subjectMissing, na_F T', x_end, x_cut, x_length, x_precedences, x_above, x_greater, x_relation, x_arity, x_shape, x_kept, x_bound, x_links, x_lines)) :
    wpX_copy post (x_pairSlot, x_subjectBase, x_filteredLeft, x_filteredRight, x_scratch, x_allOrders, x_equalMark, x_termCells, x_phase, x_ruleCount, x_pairCount, x_lineCount, x_defined, x_openSide, x_openMissing, x_subjectLength, x_subjectMissing, na_F T, x_end, x_cut, x_length, x_precedences, x_above, x_greater, x_relation, x_arity, x_shape, x_kept, x_bound, x_links, x_lines) (nI a) (nI e) (nI b) :=
  ⟨e - a + 1, zx_copy_3 ha he hb hd hp (e - a) _ a T (by omega) (by omega) (by omega) (fun j => by rw [if_neg (by omega)])⟩
end
end
section
section
variable {x_pairSlot x_subjectBase x_filteredLeft x_filteredRight x_scratch x_allOrders x_equalMark x_termCells x_phase x_ruleCount x_pairCount x_lineCount x_defined x_openSide x_openMissing x_subjectLength x_subjectMissing : Int32} {x_tok x_end x_cut x_length x_precedences x_above x_greater x_relation x_arity x_shape x_kept x_bound x_links x_lines : Nat → Int32}
variable {y_cap y_phase y_rules y_pairs y_lines y_size : Int32} {y_m y_ar y_len y_pairAt y_rec y_digit y_level y_bind y_hide y_gt y_fit y_path : Nat → Int32}
theorem ni_a1 : ∀ n, n < 8 → (nI n &&& nI 1 = nI 0 ↔ n % 2 = 0) := by decide +kernel
theorem ni_a2 : ∀ n, n < 8 → (nI n &&& nI 2 = nI 0 ↔ n / 2 % 2 = 0) := by decide +kernel
theorem ni_a4 : ∀ n, n < 8 → (nI n &&& nI 4 = nI 0 ↔ n / 4 % 2 = 0) := by decide +kernel
theorem ni_k : ∀ n, n < 8 → (nI n &&& nI 1) + ((nI n >>> (nI 1 &&& 31)) &&& nI 1) = nI (n % 2 + n / 2 % 2) := by decide +kernel
theorem fk_tri : ∀ a, a < 3 → (a + 1) * (a + 2) / 2 = fk_ch a := by decide
theorem fd_dS (f s : Nat) : f / 6 ^ (s + 1) = f / 6 ^ s / 6 := by rw [Nat.pow_succ, Nat.div_div_eq_div_mul]
theorem zx_legal_17 {post : Int32 → Prop} {ar : Nat → Nat} {f : Nat} (hA : fd_A ar) (hq : ∀ t, t < 8 → x_arity t = nI (ar t)) (hf : f < 1296)
    (h1 : (∀ s, s < 4 → fd_d f s < fk_ch (ar s)) → post 1) (h0 : (∃ s, s < 4 ∧ ¬ fd_d f s < fk_ch (ar s)) → post 0) :
    ∀ d N s rest, d < N → s + d = 4 → rest = f / 6 ^ s → rest < 1296 → (∀ s', s' < s → fd_d f s' < fk_ch (ar s')) → wX_legalFilter_17 post x_pairSlot x_subjectBase x_filteredLeft x_filteredRight x_scratch x_allOrders x_equalMark x_termCells x_phase x_ruleCount x_pairCount x_lineCount x_defined x_openSide x_openMissing x_subjectLength x_subjectMissing x_tok x_end x_cut x_length x_precedences x_above x_greater x_relation x_arity x_shape x_kept x_bound x_links x_lines N (nI rest) (nI s) := by
  intro d
  induction d with
  | zero =>
    intro N s rest hN hs hr hb h
    obtain ⟨N, rfl⟩ : ∃ M, N = M + 1 := ⟨N - 1, by omega⟩
    refine br_t ?_ (h1 fun s' hs' => h s' (by omega))
    exact nI_le (a := 4) (by omega) (by omega)
  | succ d ih =>
    intro N s rest hN hs hr hb h
    obtain ⟨N, rfl⟩ : ∃ M, N = M + 1 := ⟨N - 1, by omega⟩
    have a3 := fd_A3 hA s
    have e1 := hq s (by omega)
    have e2 := fk_tri _ a3
    have e3 : fd_d f s = rest - rest / 6 * 6 := by
      unfold fd_d
      rw [← hr]
      omega
    have hm : (ar s + 1) * (ar s + 2) < 100 := by
      have : ar s = 0 ∨ ar s = 1 ∨ ar s = 2 := by omega
      rcases this with e | e | e <;> rw [e] <;> omega
    have hc : fk_ch (ar s) < 100 := by omega
    have := ih N (s + 1) (rest / 6) (by omega) (by omega) (by rw [fd_dS, ← hr]) (by omega)
    simp (disch := omega) only [wX_legalFilter_17, li_0, li_1, li_2, li_3, li_4, li_5, li_6, li_7, li_8, li_11, li_15, li_16, li_24, li_32, li_112, li_144, li_152, li_160, li_192, li_240, li_255, li_256, li_272, li_280, li_288, li_1295, li_1296, nI_add, pk_mul, pk_sub, ni_m1, nI_clamp, ni_in, nI_leI, nI_ltI, nI_eq, forall_eq, na_at, na_upd, Nat.zero_add, Nat.add_zero, pk_div, e1, e2]
    refine br_f (by omega) ⟨by omega, by omega, by omega, by omega, br_c (fun q => ⟨by omega, this ?_⟩) (fun q => h0 ⟨s, by omega, by omega⟩)⟩
    intro s' hs'
    by_cases hss : s' = s
    · subst hss; omega
    · exact h s' (by omega)
theorem zx_legal {post : Int32 → Prop} {ar : Nat → Nat} {p0 : Int32} (hA : fd_A ar) (hq : ∀ t, t < 8 → x_arity t = nI (ar t))
    (h1 : ∀ f, p0 = nI f → fd_L ar f → post 1) (h0 : (∀ f, p0 = nI f → f < 2 ^ 31 → ¬ fd_L ar f) → post 0) : wpX_legalFilter post (x_pairSlot, x_subjectBase, x_filteredLeft, x_filteredRight, x_scratch, x_allOrders, x_equalMark, x_termCells, x_phase, x_ruleCount, x_pairCount, x_lineCount, x_defined, x_openSide, x_openMissing, x_subjectLength, x_subjectMissing, x_tok, x_end, x_cut, x_length, x_precedences, x_above, x_greater, x_relation, x_arity, x_shape, x_kept, x_bound, x_links, x_lines) p0 := by
  unfold wpX_legalFilter
  by_cases hn : p0 < 0
  · exact br_t hn (h0 fun f e hf => absurd hn (by rw [e]; exact nI_pos hf))
  · refine br_f hn ?_
    obtain ⟨f, hf, rfl⟩ := nI_of hn
    refine pk_le f 1295 (fun hle => ?_) (fun hgt => h0 fun f' e hf' hL => ?_)
    · refine ⟨5, zx_legal_17 hA hq (show f < 1296 by omega) (fun h => h1 f rfl ⟨by omega, h⟩) ?_ 4 5 0 f (by omega) (by omega) (by simp) (by omega) (fun s' hs' => by omega)⟩
      rintro ⟨s, hs, hns⟩
      refine h0 fun f' e hf' hL => hns ?_
      have : f = f' := (nI_eq hf hf').mp e
      rw [this]
      exact hL.2 s hs
    · have : f = f' := (nI_eq hf hf').mp e
      have := hL.1
      omega
theorem zy_legal_17 {post : Int32 → Prop} {ar : Nat → Nat} {f : Nat} (hA : fd_A ar) (hq : ∀ t, t < 8 → y_ar t = nI (ar t)) (hf : f < 1296)
    (h1 : (∀ s, s < 4 → fd_d f s < fk_ch (ar s)) → post 1) (h0 : (∃ s, s < 4 ∧ ¬ fd_d f s < fk_ch (ar s)) → post 0) :
    ∀ d N s rest, d < N → s + d = 4 → rest = f / 6 ^ s → rest < 1296 → (∀ s', s' < s → fd_d f s' < fk_ch (ar s')) → wY_legalFilter_17 post y_cap y_phase y_rules y_pairs y_lines y_size y_m y_ar y_len y_pairAt y_rec y_digit y_level y_bind y_hide y_gt y_fit y_path N (nI rest) (nI s) := by
  intro d
  induction d with
  | zero =>
    intro N s rest hN hs hr hb h
    obtain ⟨N, rfl⟩ : ∃ M, N = M + 1 := ⟨N - 1, by omega⟩
    refine br_t ?_ (h1 fun s' hs' => h s' (by omega))
    exact nI_le (a := 4) (by omega) (by omega)
  | succ d ih =>
    intro N s rest hN hs hr hb h
    obtain ⟨N, rfl⟩ : ∃ M, N = M + 1 := ⟨N - 1, by omega⟩
    have a3 := fd_A3 hA s
    have e1 := hq s (by omega)
    have e3 : fd_d f s = rest - rest / 6 * 6 := by
      unfold fd_d
      rw [← hr]
      omega
    have hc : fk_ch (ar s) = if ar s = 0 then 1 else if ar s = 1 then 3 else 6 := rfl
    have key : (fd_d f s < fk_ch (ar s)) → wY_legalFilter_17 post y_cap y_phase y_rules y_pairs y_lines y_size y_m y_ar y_len y_pairAt y_rec y_digit y_level y_bind y_hide y_gt y_fit y_path N (nI (rest / 6)) (nI (s + 1)) := by
      intro hlt
      refine ih N (s + 1) (rest / 6) (by omega) (by omega) (by rw [fd_dS, ← hr]) (by omega) ?_
      intro s' hs'
      by_cases hss : s' = s
      · subst hss; exact hlt
      · exact h s' (by omega)
    simp (disch := omega) only [wY_legalFilter_17, wY_legalFilter_38, li_0, li_1, li_2, li_3, li_4, li_5, li_6, li_7, li_8, li_11, li_15, li_16, li_24, li_32, li_112, li_144, li_152, li_160, li_192, li_240, li_255, li_256, li_272, li_280, li_288, li_1295, li_1296, nI_add, pk_mul, pk_sub, ni_m1, nI_clamp, ni_in, nI_leI, nI_ltI, nI_eq, forall_eq, na_at, na_upd, Nat.zero_add, Nat.add_zero, pk_div, e1]
    refine br_f (by omega) ⟨by omega, br_c (fun q => ⟨by omega, br_c (fun q2 => h0 ⟨s, by omega, ?_⟩) (fun q2 => ⟨by omega, br_f (by omega) ⟨by omega, key ?_⟩⟩)⟩) (fun q => ⟨by omega, br_c (fun q2 => ⟨by omega, br_c (fun q3 => ⟨by omega, key ?_⟩) (fun q3 => h0 ⟨s, by omega, ?_⟩)⟩) (fun q2 => ⟨by omega, key ?_⟩)⟩)⟩
    · rw [hc, if_pos q]; omega
    · rw [hc, if_pos q]; omega
    · rw [hc, if_neg q, if_pos q2]; omega
    · rw [hc, if_neg q, if_pos q2]; omega
    · rw [hc, if_neg q, if_neg q2]; omega
theorem zy_legal {post : Int32 → Prop} {ar : Nat → Nat} {p0 : Int32} (hA : fd_A ar) (hq : ∀ t, t < 8 → y_ar t = nI (ar t))
    (h1 : ∀ f, p0 = nI f → fd_L ar f → post 1) (h0 : (∀ f, p0 = nI f → f < 2 ^ 31 → ¬ fd_L ar f) → post 0) : wpY_legalFilter post (y_cap, y_phase, y_rules, y_pairs, y_lines, y_size, y_m, y_ar, y_len, y_pairAt, y_rec, y_digit, y_level, y_bind, y_hide, y_gt, y_fit, y_path) p0 := by
  unfold wpY_legalFilter
  by_cases hn : p0 < 0
  · exact br_t hn (h0 fun f e hf => absurd hn (by rw [e]; exact nI_pos hf))
  · refine br_f hn ?_
    obtain ⟨f, hf, rfl⟩ := nI_of hn
    refine pk_le f 1295 (fun hle => ?_) (fun hgt => h0 fun f' e hf' hL => ?_)
    · refine ⟨5, zy_legal_17 hA hq (show f < 1296 by omega) (fun h => h1 f rfl ⟨by omega, h⟩) ?_ 4 5 0 f (by omega) (by omega) (by simp) (by omega) (fun s' hs' => by omega)⟩
      rintro ⟨s, hs, hns⟩
      refine h0 fun f' e hf' hL => hns ?_
      have : f = f' := (nI_eq hf hf').mp e
      rw [this]
      exact hL.2 s hs
    · have : f = f' := (nI_eq hf hf').mp e
      have := hL.1
      omega
theorem zx_shapeOf {post : Int32 → Prop} {A d : Nat} (hA : A < 3) (hd : d < 6) (hp : post (nI (fk_x A d))) : wpX_shapeOf post (x_pairSlot, x_subjectBase, x_filteredLeft, x_filteredRight, x_scratch, x_allOrders, x_equalMark, x_termCells, x_phase, x_ruleCount, x_pairCount, x_lineCount, x_defined, x_openSide, x_openMissing, x_subjectLength, x_subjectMissing, x_tok, x_end, x_cut, x_length, x_precedences, x_above, x_greater, x_relation, x_arity, x_shape, x_kept, x_bound, x_links, x_lines) (nI A) (nI d) := by
  unfold wpX_shapeOf
  have h1 : A = 0 ∨ A = 1 ∨ A = 2 := by omega
  have h2 : d = 0 ∨ d = 1 ∨ d = 2 ∨ d = 3 ∨ d = 4 ∨ d = 5 := by omega
  rcases h1 with e | e | e <;> subst e
  · exact br_t (by decide) hp
  · refine br_f (by decide) (br_t (by decide) ?_)
    rcases h2 with e | e | e | e | e | e <;> subst e
    · exact br_t (by decide) hp
    · exact br_f (by decide) (br_t (by decide) hp)
    · exact br_f (by decide) (br_f (by decide) hp)
    · exact br_f (by decide) (br_f (by decide) hp)
    · exact br_f (by decide) (br_f (by decide) hp)
    · exact br_f (by decide) (br_f (by decide) hp)
  · refine br_f (by decide) (br_f (by decide) ?_)
    rcases h2 with e | e | e | e | e | e <;> subst e
    · exact br_f (by decide) (br_f (by decide) (br_t (by decide) hp))
    · exact br_f (by decide) (br_f (by decide) (br_f (by decide) (br_t (by decide) hp)))
    · exact br_f (by decide) (br_f (by decide) (br_f (by decide) (br_f (by decide) (br_t (by decide) hp))))
    · exact br_f (by decide) (br_f (by decide) (br_f (by decide) (br_f (by decide) (br_f (by decide) (br_t (by decide) hp)))))
    · exact br_f (by decide) (br_f (by decide) (br_f (by decide) (br_f (by decide) (br_f (by decide) (br_f (by decide) (br_t (by decide) hp))))))
    · exact br_f (by decide) (br_t (by decide) hp)
theorem zx_load_4 {post : SX → Prop} {ar : Nat → Nat} {f : Nat} (hA : fd_A ar) (hf : fd_L ar f) (hq : ∀ t, t < 8 → x_arity t = nI (ar t))
    (hp : ∀ sh kp, (∀ t, t < 8 → sh t = fk_x (ar t) (fd_g f t)) → (∀ t, t < 8 → kp t = fd_kp ar f t) → post (x_pairSlot, x_subjectBase, x_filteredLeft, x_filteredRight, x_scratch, x_allOrders, x_equalMark, x_termCells, x_phase, x_ruleCount, x_pairCount, x_lineCount, x_defined, x_openSide, x_openMissing, x_subjectLength, x_subjectMissing, x_tok, x_end, x_cut, x_length, x_precedences, x_above, x_greater, x_relation, x_arity, na_F sh, na_F kp, x_bound, x_links, x_lines)) :
    ∀ d N s rest sh kp, d < N → s + d = 4 → rest = f / 6 ^ s → rest < 1296 → (∀ t, t < 8 → (t < s ∨ 4 ≤ t) → sh t = fk_x (ar t) (fd_g f t) ∧ kp t = fd_kp ar f t) →
      wX_loadFilter_4 post x_pairSlot x_subjectBase x_filteredLeft x_filteredRight x_scratch x_allOrders x_equalMark x_termCells x_phase x_ruleCount x_pairCount x_lineCount x_defined x_openSide x_openMissing x_subjectLength x_subjectMissing N (nI rest) (nI s) x_tok x_end x_cut x_length x_precedences x_above x_greater x_relation x_arity (na_F sh) (na_F kp) x_bound x_links x_lines := by
  intro d
  induction d with
  | zero =>
    intro N s rest sh kp hN hs hr hb h
    obtain ⟨N, rfl⟩ : ∃ M, N = M + 1 := ⟨N - 1, by omega⟩
    refine br_t ?_ (hp sh kp (fun t ht => (h t ht (by omega)).1) (fun t ht => (h t ht (by omega)).2))
    exact nI_le (a := 4) (by omega) (by omega)
  | succ d ih =>
    intro N s rest sh kp hN hs hr hb h
    obtain ⟨N, rfl⟩ : ∃ M, N = M + 1 := ⟨N - 1, by omega⟩
    have a3 := fd_A3 hA s
    have e1 := hq s (by omega)
    have e3 : fd_d f s = rest - rest / 6 * 6 := by
      unfold fd_d
      rw [← hr]
      omega
    have e4 : fd_g f s = fd_d f s := if_pos (by omega)
    obtain ⟨_, _, _, _, k5, k6, k7⟩ := fd_fin hA hf s
    have e5 := ni_k _ k7
    have key := ih N (s + 1) (rest / 6) (na_u sh s (fk_x (ar s) (fd_g f s))) (na_u kp s (fd_kp ar f s)) (by omega) (by omega) (by rw [fd_dS, ← hr]) (by omega) (by
      intro t ht hts
      by_cases hs2 : t = s
      · subst hs2; rw [na_us, na_us]; exact ⟨rfl, rfl⟩
      · rw [na_un hs2, na_un hs2]; exact h t ht (by omega))
    simp (disch := omega) only [wX_loadFilter_4, li_0, li_1, li_2, li_3, li_4, li_5, li_6, li_7, li_8, li_11, li_15, li_16, li_24, li_32, li_112, li_144, li_152, li_160, li_192, li_240, li_255, li_256, li_272, li_280, li_288, li_1295, li_1296, nI_add, pk_mul, pk_sub, ni_m1, nI_clamp, ni_in, nI_leI, nI_ltI, nI_eq, forall_eq, na_at, na_upd, Nat.zero_add, Nat.add_zero, pk_div, e1]
    refine br_f (by omega) ⟨by omega, by omega, ?_⟩
    rw [← e3, ← e4]
    refine zx_shapeOf a3 (by rw [e4, e3]; omega) ?_
    simp (disch := omega) only [li_0, li_1, li_2, li_3, li_4, li_5, li_6, li_7, li_8, li_11, li_15, li_16, li_24, li_32, li_112, li_144, li_152, li_160, li_192, li_240, li_255, li_256, li_272, li_280, li_288, li_1295, li_1296, nI_add, pk_mul, pk_sub, ni_m1, nI_clamp, ni_in, nI_leI, nI_ltI, nI_eq, forall_eq, na_at, na_upd, Nat.zero_add, Nat.add_zero, pk_div, pk_us, e5, k5, na_us]
    exact ⟨by omega, by omega, by omega, by omega, by omega, key⟩
theorem zx_load {post : SX → Prop} {ar sh kp : Nat → Nat} {f : Nat} (hA : fd_A ar) (hf : fd_L ar f) (hq : ∀ t, t < 8 → x_arity t = nI (ar t))
    (hs : ∀ t, t < 8 → 4 ≤ t → sh t = 4 ∧ kp t = 0)
    (hp : ∀ sh kp, (∀ t, t < 8 → sh t = fk_x (ar t) (fd_g f t)) → (∀ t, t < 8 → kp t = fd_kp ar f t) → post (x_pairSlot, x_subjectBase, x_filteredLeft, x_filteredRight, x_scratch, x_allOrders, x_equalMark, x_termCells, x_phase, x_ruleCount, x_pairCount, x_lineCount, x_defined, x_openSide, x_openMissing, x_subjectLength, x_subjectMissing, x_tok, x_end, x_cut, x_length, x_precedences, x_above, x_greater, x_relation, x_arity, na_F sh, na_F kp, x_bound, x_links, x_lines)) :
    wpX_loadFilter post (x_pairSlot, x_subjectBase, x_filteredLeft, x_filteredRight, x_scratch, x_allOrders, x_equalMark, x_termCells, x_phase, x_ruleCount, x_pairCount, x_lineCount, x_defined, x_openSide, x_openMissing, x_subjectLength, x_subjectMissing, x_tok, x_end, x_cut, x_length, x_precedences, x_above, x_greater, x_relation, x_arity, na_F sh, na_F kp, x_bound, x_links, x_lines) (nI f) := by
  refine ⟨5, zx_load_4 hA hf hq hp 4 5 0 f sh kp (by omega) (by omega) (by simp) hf.1 ?_⟩
  intro t ht h4
  have h4' : 4 ≤ t := by omega
  rw [(hs t ht h4').1, (hs t ht h4').2, hA.2.2.2.2 t h4', fd_kpv hA f h4']
  exact ⟨rfl, rfl⟩
theorem zy_kept {post : Int32 → Prop} {ar dg : Nat → Nat} {t g : Nat} (ht : t < 8) (hg : g < 3) (hq : ∀ t, t < 8 → y_ar t = nI (ar t)) (hd : ∀ t, t < 8 → y_digit t = nI (dg t)) (h3 : ar t < 3) (h6 : dg t < 6)
    (h1 : fk_k (ar t) (dg t) g = true → post 1) (h0 : fk_k (ar t) (dg t) g = false → post 0) : wpY_kept post (y_cap, y_phase, y_rules, y_pairs, y_lines, y_size, y_m, y_ar, y_len, y_pairAt, y_rec, y_digit, y_level, y_bind, y_hide, y_gt, y_fit, y_path) (nI t) (nI g) := by
  have e1 := hq t ht
  have e2 := hd t ht
  unfold wpY_kept
  simp (disch := omega) only [li_0, li_1, li_2, li_3, li_4, li_5, li_6, li_7, li_8, li_11, li_15, li_16, li_24, li_32, li_112, li_144, li_152, li_160, li_192, li_240, li_255, li_256, li_272, li_280, li_288, li_1295, li_1296, nI_add, pk_mul, pk_sub, ni_m1, nI_clamp, ni_in, nI_leI, nI_ltI, nI_eq, forall_eq, na_at, na_upd, Nat.zero_add, Nat.add_zero, e1, e2]
  refine ⟨by omega, br_c (fun q => ⟨by omega, br_c (fun q2 => h0 ?_) (fun q2 => h1 ?_)⟩) (fun q => ⟨by omega, br_c (fun q2 => h1 ?_) (fun q2 => ⟨by omega, br_c (fun q3 => h1 ?_) (fun q3 => ⟨by omega, br_c (fun q4 => h1 ?_) (fun q4 => h0 ?_)⟩)⟩)⟩)⟩
  all_goals unfold fk_k
  · rw [if_pos q]; simp [q2]
  · rw [if_pos q]; simp [q2]
  · rw [if_neg q]; simp [q2]
  · rw [if_neg q]; simp [q3]
  · rw [if_neg q]; simp [q4]
  · rw [if_neg q]; simp [q2, q3, q4]
end
end
section
/-! a property along the pending terms -/
def st_I (a T : Nat → Nat) (Q : Bool → Nat → Prop) : List Bool → Nat → Prop
  | [], _ => True
  | d :: ds, p => Q d p ∧ st_I a T Q ds (p + tx_z a T p)
theorem st_app {a T : Nat → Nat} {Q : Bool → Nat → Prop} : ∀ l1 l2 p, st_I a T Q (l1 ++ l2) p ↔ st_I a T Q l1 p ∧ st_I a T Q l2 (tx_k a T p l1.length) := by
  intro l1
  induction l1 with
  | nil => intro l2 p; exact ⟨fun h => ⟨trivial, h⟩, fun h => h.2⟩
  | cons d l ih =>
    intro l2 p
    show (Q d p ∧ st_I a T Q (l ++ l2) (p + tx_z a T p)) ↔ _
    rw [ih, List.length_cons, tx_k1]
    exact ⟨fun ⟨h1, h2, h3⟩ => ⟨⟨h1, h2⟩, h3⟩, fun ⟨⟨h1, h2⟩, h3⟩ => ⟨h1, h2, h3⟩⟩
theorem st_mono {a T : Nat → Nat} {Q Q' : Bool → Nat → Prop} : ∀ ds p, (∀ d q, p ≤ q → Q d q → Q' d q) → st_I a T Q ds p → st_I a T Q' ds p := by
  intro ds
  induction ds with
  | nil => intro p _ _; trivial
  | cons d ds ih =>
    rintro p h ⟨h1, h2⟩
    exact ⟨h d p (Nat.le_refl _) h1, ih _ (fun d q hq => h d q (by omega)) h2⟩
theorem st_of {a T : Nat → Nat} {Q : Bool → Nat → Prop} : ∀ fs p, (∀ g, g < fs.length → Q (fs.getD g false) (tx_k a T p g)) → st_I a T Q fs p := by
  intro fs
  induction fs with
  | nil => intro p _; trivial
  | cons d ds ih =>
    intro p h
    refine ⟨h 0 (by rw [List.length_cons]; omega), ih _ fun g hg => ?_⟩
    have := h (g + 1) (by rw [List.length_cons]; omega)
    rw [tx_k1] at this
    exact this
/-- the stack behind the token at p: its arguments' flags fs, then the rest -/
theorem st_push {a T : Nat → Nat} {Q Q' : Bool → Nat → Prop} {fs ds : List Bool} {d : Bool} {p n : Nat} (hn : n ≤ 200) (hT : tx_M a (tx_t T p n) (ds.length + 1) 0) (hf : fs.length = a (T p)) (h : st_I a T Q (d :: ds) p)
    (h1 : ∀ g, g < a (T p) → p < tx_g a T p g → tx_g a T p g + tx_z a T (tx_g a T p g) ≤ p + tx_z a T p → 0 < tx_z a T (tx_g a T p g) → Q' (fs.getD g false) (tx_g a T p g))
    (h2 : ∀ d q, p + tx_z a T p ≤ q → Q d q → Q' d q) : st_I a T Q' (fs ++ ds) (p + 1) := by
  have hp : 0 < n := by
    have := tx_M_le _ _ hT
    rw [tx_len] at this
    omega
  obtain ⟨z1, z2, z3⟩ := tx_subz (j := 0) hT hn hp
  rw [Nat.add_zero] at z1 z2 z3
  refine (st_app _ _ _).mpr ⟨st_of _ _ fun g hg => ?_, ?_⟩
  · rw [hf] at hg
    obtain ⟨a1, a2, a3, a4, a5⟩ := tx_args z1 (by omega) hg
    rw [← tx_gk]
    exact h1 g hg a1 a4 a5
  · rw [hf, ← tx_gk, tx_arge z1 (by omega)]
    exact st_mono _ _ h2 h.2
/-- the text behind the token at p -/
theorem st_tail {a T : Nat → Nat} {ds fs : List Bool} {p n : Nat} (hT : tx_M a (tx_t T p (n + 1)) (ds.length + 1) 0) (hf : fs.length = a (T p)) : tx_M a (tx_t T (p + 1) n) (fs ++ ds).length 0 := by
  obtain ⟨m0, e, h⟩ := hT
  rw [List.length_append, hf, Nat.add_comm (a (T p)), show ds.length = m0 by omega]
  exact h
theorem st_rep (n g : Nat) (h : g < n) : (List.replicate n true).getD g false = true := by
  rw [List.getD_eq_getElem?_getD, List.getElem?_replicate]
  simp [h]
theorem st_fks {A d g : Nat} (h : g < A) : (fk_s A d).getD g false = !fk_k A d g := by
  unfold fk_s
  rw [List.getD_eq_getElem?_getD, List.getElem?_map, List.getElem?_range h]
  rfl
end
section
section
variable {x_pairSlot x_subjectBase x_filteredLeft x_filteredRight x_scratch x_allOrders x_equalMark x_termCells x_phase x_ruleCount x_pairCount x_lineCount x_defined x_openSide x_openMissing x_subjectLength x_subjectMissing : Int32} {x_tok x_end x_cut x_length x_precedences x_above x_greater x_relation x_arity x_shape x_kept x_bound x_links x_lines : Nat → Int32}
theorem ni_b1 : vp_nar .boolean (nI 1) = nI 1 := by rfl
theorem ni_b0 : vp_nar .boolean (nI 0) = nI 0 := by rfl
def fx_Q (a T ct : Nat → Nat) (nx : Nat) (d : Bool) (q : Nat) : Prop := (d = true ↔ (q < nx ∨ ct q ≠ 0)) ∧ (q < nx → q + tx_z a T q ≤ nx)
theorem zx_ft16 {post : SX → Prop} {T0 ar sh kp en0 ct0 : Nat → Nat} {f b n0 to : Nat} {out : List Nat} (hA : fd_A ar) (hf : fd_L ar f)
    (hq : ∀ t, t < 8 → x_arity t = nI (ar t)) (hsh : ∀ t, t < 8 → sh t = fk_x (ar t) (fd_g f t)) (hkp : ∀ t, t < 8 → kp t = fd_kp ar f t)
    (hT0 : ∀ k, T0 k < 8) (hn0 : n0 ≤ 8) (hb : b + n0 ≤ 272) (hto : 272 ≤ to) (hto2 : to + 8 ≤ 320) (hen : ∀ k, b ≤ k → k < b + n0 → en0 k = k + tx_z ar T0 k)
    (hout : tx_T (fd_kp ar f) out) (hol : out.length ≤ 8)
    (hp : ∀ T en ct, (∀ k, T k < 8) → (∀ k, k < to ∨ to + 8 ≤ k → T k = T0 k) → tx_t T to out.length = out → (∀ k, to ≤ k → k < to + out.length → en k = k + tx_z (fd_kp ar f) T k) →
      (∀ k, k < to ∨ to + 8 ≤ k → en k = en0 k) → (∀ k, ct k < 2) → (∀ k, k ≤ b ∨ b + n0 ≤ k → ct k = ct0 k) → post (x_pairSlot, x_subjectBase, x_filteredLeft, x_filteredRight, x_scratch, x_allOrders, x_equalMark, x_termCells, x_phase, x_ruleCount, x_pairCount, x_lineCount, x_defined, x_openSide, x_openMissing, x_subjectLength, x_subjectMissing, na_F T, na_F en, na_F ct, x_length, x_precedences, x_above, x_greater, x_relation, x_arity, na_F sh, na_F kp, x_bound, x_links, x_lines)) :
    ∀ n N p c nx ct ds T, n < N → p + n = b + n0 → b ≤ p → nx ≤ 320 → tx_M ar (tx_t T0 p n) ds.length 0 → st_I ar T0 (fx_Q ar T0 ct nx) ds p →
      (∀ k, T k < 8) → (∀ k, k < to ∨ to + 8 ≤ k → T k = T0 k) → c + (fl_f ar (fd_sh ar f) (fd_rt ar f) (tx_t T0 p n) ds).length = out.length →
      tx_t T to c ++ fl_f ar (fd_sh ar f) (fd_rt ar f) (tx_t T0 p n) ds = out → (∀ k, ct k < 2) → (∀ k, k ≤ b ∨ b + n0 ≤ k → ct k = ct0 k) →
      wX_filterText_16 post (nI to) (nI (b + n0)) x_pairSlot x_subjectBase x_filteredLeft x_filteredRight x_scratch x_allOrders x_equalMark x_termCells x_phase x_ruleCount x_pairCount x_lineCount x_defined x_openSide x_openMissing x_subjectLength x_subjectMissing N (nI c) (nI nx) (nI p) (na_F T) (na_F en0) (na_F ct) x_length x_precedences x_above x_greater x_relation x_arity (na_F sh) (na_F kp) x_bound x_links x_lines := by
  intro n
  induction n with
  | zero =>
    intro N p c nx ct ds T hN hpe hbp hnx hM hS hT hTo hc hcat hct hctb
    obtain ⟨N, rfl⟩ : ∃ M, N = M + 1 := ⟨N - 1, by omega⟩
    have hl : fl_f ar (fd_sh ar f) (fd_rt ar f) (tx_t T0 p 0) ds = [] := rfl
    rw [hl, List.append_nil] at hcat
    rw [hl] at hc
    have hc' : c = out.length := hc
    simp (disch := omega) only [wX_filterText_16, li_0, li_1, li_2, li_3, li_4, li_5, li_6, li_7, li_8, li_11, li_15, li_16, li_24, li_32, li_112, li_144, li_152, li_160, li_192, li_240, li_255, li_256, li_272, li_280, li_288, li_1295, li_1296, nI_add, pk_mul, pk_sub, ni_m1, nI_clamp, ni_in, nI_leI, nI_ltI, nI_eq, forall_eq, na_at, na_upd, Nat.zero_add, Nat.add_zero]
    refine br_t (by omega) ?_
    refine zx_markEnds (q := fd_kp ar f) hT (fd_kp3 hA hf) ?_ (by omega) (by omega) (by rw [hcat]; exact hout) ?_
    · intro t ht
      refine ⟨fun z => absurd z (by decide), fun _ => ?_⟩
      rw [na_at, hkp t ht]
    · intro en he1 he2
      exact hp T en ct hT hTo (by rw [← hc']; exact hcat) (by rw [← hc']; exact he1) (fun k hk => he2 k (by omega)) hct hctb
  | succ n ih =>
    intro N p c nx ct ds T hN hpe hbp hnx hM hS hT hTo hc hcat hct hctb
    obtain ⟨N, rfl⟩ : ∃ M, N = M + 1 := ⟨N - 1, by omega⟩
    have t1 := hT0 p
    have eT : T p = T0 p := hTo p (by omega)
    have c1 := hct p
    have ep := hen p hbp (by omega)
    have a3 := fd_A3 hA (T0 p)
    have hM0 := hM
    obtain ⟨m0, em, hM1⟩ := hM
    cases ds with
    | nil => exact absurd em (by show ¬ 0 = m0 + 1; omega)
    | cons d ds =>
    obtain ⟨z1, z2, z3⟩ := tx_subz (j := 0) hM0 (by omega) (by omega)
    rw [Nat.add_zero] at z1 z2 z3
    obtain ⟨⟨hd, hnxz⟩, hrest⟩ := hS
    have hS : st_I ar T0 (fx_Q ar T0 ct nx) (d :: ds) p := ⟨⟨hd, hnxz⟩, hrest⟩
    by_cases hpn : p < nx
    · -- inside a dropped argument
      have hd1 : d = true := hd.mpr (Or.inl hpn)
      subst hd1
      have key := ih N (p + 1) c nx ct (List.replicate (ar (T0 p)) true ++ ds) T (by omega) (by omega) (by omega) hnx (st_tail hM0 (List.length_replicate ..))
        (st_push (by omega) hM0 (List.length_replicate ..) hS (fun g hg h1 h2 h3 => ⟨⟨fun _ => Or.inl (by have := hnxz hpn; omega), fun _ => st_rep _ _ hg⟩, fun _ => by have := hnxz hpn; omega⟩) (fun d q _ hq => hq))
        hT hTo hc hcat hct hctb
      simp (disch := omega) only [wX_filterText_16, wX_filterText_52, li_0, li_1, li_2, li_3, li_4, li_5, li_6, li_7, li_8, li_11, li_15, li_16, li_24, li_32, li_112, li_144, li_152, li_160, li_192, li_240, li_255, li_256, li_272, li_280, li_288, li_1295, li_1296, nI_add, pk_mul, pk_sub, ni_m1, nI_clamp, ni_in, nI_leI, nI_ltI, nI_eq, forall_eq, na_at, na_upd, Nat.zero_add, Nat.add_zero]
      exact br_f (by omega) (br_t (by omega) (br_t (by omega) key))
    · by_cases hcp : ct p = 0
      · -- visible
        have hd1 : d = false := by
          cases d with
          | false => rfl
          | true => exact absurd (hd.mp rfl) (by omega)
        subst hd1
        obtain ⟨k1, k2, k3, k4, k5, k6, k7⟩ := fd_fin hA hf (T0 p)
        have es := hsh _ t1
        have b1 := ni_a1 _ k7
        have b2 := ni_a2 _ k7
        have b4 := ni_a4 _ k7
        -- the marks of the arguments
        have marks : ∀ ct', (∀ k, ct' k < 2) → (∀ k, k ≤ p ∨ p + tx_z ar T0 p ≤ k → ct' k = ct k) →
            (0 < ar (T0 p) → ct' (tx_g ar T0 p 0) = if fk_k (ar (T0 p)) (fd_g f (T0 p)) 0 then 0 else 1) →
            (1 < ar (T0 p) → ct' (tx_g ar T0 p 1) = if fk_k (ar (T0 p)) (fd_g f (T0 p)) 1 then 0 else 1) →
            ∀ c' T', (∀ k, T' k < 8) → (∀ k, k < to ∨ to + 8 ≤ k → T' k = T0 k) →
            c' + (fl_f ar (fd_sh ar f) (fd_rt ar f) (tx_t T0 (p + 1) n) (fd_sh ar f (T0 p) ++ ds)).length = out.length →
            tx_t T' to c' ++ fl_f ar (fd_sh ar f) (fd_rt ar f) (tx_t T0 (p + 1) n) (fd_sh ar f (T0 p) ++ ds) = out →
            wX_filterText_16 post (nI to) (nI (b + n0)) x_pairSlot x_subjectBase x_filteredLeft x_filteredRight x_scratch x_allOrders x_equalMark x_termCells x_phase x_ruleCount x_pairCount x_lineCount x_defined x_openSide x_openMissing x_subjectLength x_subjectMissing N (nI c') (nI nx) (nI (p + 1)) (na_F T') (na_F en0) (na_F ct') x_length x_precedences x_above x_greater x_relation x_arity (na_F sh) (na_F kp) x_bound x_links x_lines := by
          intro ct' hc1 hc2 hm0 hm1 c' T' hT' hTo' hl' hcat'
          refine ih N (p + 1) c' nx ct' (fd_sh ar f (T0 p) ++ ds) T' (by omega) (by omega) (by omega) hnx (st_tail hM0 (fk_len _ _)) ?_ hT' hTo' hl' hcat' hc1 (fun k hk => by rw [hc2 k (by omega)]; exact hctb k hk)
          refine st_push (by omega) hM0 (fk_len _ _) hS (fun g hg h1 h2 h3 => ?_) (fun d q hqz hq => ?_)
          · have e1 : (fd_sh ar f (T0 p)).getD g false = !fk_k (ar (T0 p)) (fd_g f (T0 p)) g := st_fks hg
            rw [e1]
            have e2 : ct' (tx_g ar T0 p g) = if fk_k (ar (T0 p)) (fd_g f (T0 p)) g then 0 else 1 := by
              have : g = 0 ∨ g = 1 := by omega
              rcases this with e | e
              · subst e; exact hm0 hg
              · subst e; exact hm1 hg
            refine ⟨?_, fun z => by omega⟩
            rw [e2]
            cases fk_k (ar (T0 p)) (fd_g f (T0 p)) g with
            | true => exact ⟨fun z => absurd z (by decide), fun z => by rcases z with z | z; omega; exact absurd rfl z⟩
            | false => exact ⟨fun _ => Or.inr (by decide), fun _ => rfl⟩
          · unfold fx_Q
            rw [hc2 q (by omega)]
            exact hq
        -- behind the emission: rows 93, 128, 129
        have key : ∀ c' T', (∀ k, T' k < 8) → (∀ k, k < to ∨ to + 8 ≤ k → T' k = T0 k) →
            c' + (fl_f ar (fd_sh ar f) (fd_rt ar f) (tx_t T0 (p + 1) n) (fd_sh ar f (T0 p) ++ ds)).length = out.length →
            tx_t T' to c' ++ fl_f ar (fd_sh ar f) (fd_rt ar f) (tx_t T0 (p + 1) n) (fd_sh ar f (T0 p) ++ ds) = out →
            wX_filterText_93 post (wX_filterText_16 post (nI to) (nI (b + n0)) x_pairSlot x_subjectBase x_filteredLeft x_filteredRight x_scratch x_allOrders x_equalMark x_termCells x_phase x_ruleCount x_pairCount x_lineCount x_defined x_openSide x_openMissing x_subjectLength x_subjectMissing N) (nI to) (nI c') (nI nx) (nI (b + n0)) (nI p) (nI (T0 p)) x_pairSlot x_subjectBase x_filteredLeft x_filteredRight x_scratch x_allOrders x_equalMark x_termCells x_phase x_ruleCount x_pairCount x_lineCount x_defined x_openSide x_openMissing x_subjectLength x_subjectMissing (na_F T') (na_F en0) (na_F ct) x_length x_precedences x_above x_greater x_relation x_arity (na_F sh) (na_F kp) x_bound x_links x_lines := by
          intro c' T' hT' hTo' hl' hcat'
          have eq := hq _ t1
          have hA0 : ar (T0 p) = 0 ∨ 0 < ar (T0 p) := by omega
          rcases hA0 with hA0 | hA0
          · have M := marks ct hct (fun _ _ => rfl) (fun z => by omega) (fun z => by omega) c' T' hT' hTo' hl' hcat'
            simp (disch := omega) only [wX_filterText_93, wX_filterText_129, li_0, li_1, li_2, li_3, li_4, li_5, li_6, li_7, li_8, li_11, li_15, li_16, li_24, li_32, li_112, li_144, li_152, li_160, li_192, li_240, li_255, li_256, li_272, li_280, li_288, li_1295, li_1296, nI_add, pk_mul, pk_sub, ni_m1, nI_clamp, ni_in, nI_leI, nI_ltI, nI_eq, forall_eq, na_at, na_upd, Nat.zero_add, Nat.add_zero, eq]
            exact ⟨by omega, br_t (by omega) ⟨by omega, br_t (by omega) M⟩⟩
          · obtain ⟨g1, g2, g3, g4, g5⟩ := tx_args z1 (by omega) hA0
            have g0 : tx_g ar T0 p 0 = p + 1 := rfl
            -- the first mark
            have first : ∀ v, v < 2 → v = (if fk_k (ar (T0 p)) (fd_g f (T0 p)) 0 then 0 else 1) →
                wX_filterText_129 post (wX_filterText_16 post (nI to) (nI (b + n0)) x_pairSlot x_subjectBase x_filteredLeft x_filteredRight x_scratch x_allOrders x_equalMark x_termCells x_phase x_ruleCount x_pairCount x_lineCount x_defined x_openSide x_openMissing x_subjectLength x_subjectMissing N) (nI to) (nI c') (nI nx) (nI (b + n0)) (nI p) (nI (T0 p)) x_pairSlot x_subjectBase x_filteredLeft x_filteredRight x_scratch x_allOrders x_equalMark x_termCells x_phase x_ruleCount x_pairCount x_lineCount x_defined x_openSide x_openMissing x_subjectLength x_subjectMissing (na_F T') (na_F en0) (na_F (na_u ct (p + 1) v)) x_length x_precedences x_above x_greater x_relation x_arity (na_F sh) (na_F kp) x_bound x_links x_lines := by
              intro v hv ev
              have hA1 : ar (T0 p) = 1 ∨ ar (T0 p) = 2 := by omega
              rcases hA1 with hA1 | hA1
              · have M := marks (na_u ct (p + 1) v) (fun k => by unfold na_u; split; exact hv; exact hct k) (fun k hk => na_un (by omega)) (fun _ => by rw [g0, na_us]; exact ev) (fun z => by omega) c' T' hT' hTo' hl' hcat'
                simp (disch := omega) only [wX_filterText_129, li_0, li_1, li_2, li_3, li_4, li_5, li_6, li_7, li_8, li_11, li_15, li_16, li_24, li_32, li_112, li_144, li_152, li_160, li_192, li_240, li_255, li_256, li_272, li_280, li_288, li_1295, li_1296, nI_add, pk_mul, pk_sub, ni_m1, nI_clamp, ni_in, nI_leI, nI_ltI, nI_eq, forall_eq, na_at, na_upd, Nat.zero_add, Nat.add_zero, eq]
                exact ⟨by omega, br_t (by omega) M⟩
              · obtain ⟨q1, q2, q3, q4, q5⟩ := tx_args (g := 1) z1 (by omega) (by omega)
                have e1 := hen (p + 1) (by omega) (by omega)
                have g1' : tx_g ar T0 p 1 = p + 1 + tx_z ar T0 (p + 1) := rfl
                have hb3 : p + 1 + tx_z ar T0 (p + 1) < 320 := by omega
                have hz1 : 0 < tx_z ar T0 (p + 1) := g5
                have M : ∀ w, w < 2 → w = (if fk_k (ar (T0 p)) (fd_g f (T0 p)) 1 then 0 else 1) → _ := fun w hw ew =>
                  marks (na_u (na_u ct (p + 1) v) (p + 1 + tx_z ar T0 (p + 1)) w) (fun k => by unfold na_u; split; exact hw; split; exact hv; exact hct k) (fun k hk => by rw [na_un (by omega), na_un (by omega)]) (fun _ => by rw [g0, na_un (by omega), na_us]; exact ev) (fun _ => by rw [g1', na_us]; exact ew) c' T' hT' hTo' hl' hcat'
                simp (disch := omega) only [wX_filterText_129, li_0, li_1, li_2, li_3, li_4, li_5, li_6, li_7, li_8, li_11, li_15, li_16, li_24, li_32, li_112, li_144, li_152, li_160, li_192, li_240, li_255, li_256, li_272, li_280, li_288, li_1295, li_1296, nI_add, pk_mul, pk_sub, ni_m1, nI_clamp, ni_in, nI_leI, nI_ltI, nI_eq, forall_eq, na_at, na_upd, Nat.zero_add, Nat.add_zero, eq, es, e1, b2, ni_b1, ni_b0]
                refine ⟨by omega, br_f (by omega) ⟨by omega, by omega, br_c (fun q => ⟨by omega, M 1 (by omega) ?_⟩) (fun q => ⟨by omega, M 0 (by omega) ?_⟩)⟩⟩
                · rw [(k3 (by omega)).mp q]; rfl
                · rw [show fk_k (ar (T0 p)) (fd_g f (T0 p)) 1 = true from by
                    cases hk : fk_k (ar (T0 p)) (fd_g f (T0 p)) 1 with
                    | true => rfl
                    | false => exact absurd ((k3 (by omega)).mpr hk) q]
                  rfl
            simp (disch := omega) only [wX_filterText_93, wX_filterText_128, li_0, li_1, li_2, li_3, li_4, li_5, li_6, li_7, li_8, li_11, li_15, li_16, li_24, li_32, li_112, li_144, li_152, li_160, li_192, li_240, li_255, li_256, li_272, li_280, li_288, li_1295, li_1296, nI_add, pk_mul, pk_sub, ni_m1, nI_clamp, ni_in, nI_leI, nI_ltI, nI_eq, forall_eq, na_at, na_upd, Nat.zero_add, Nat.add_zero, eq, es, b1, ni_b1, ni_b0]
            refine ⟨by omega, br_f (by omega) ⟨by omega, br_c (fun q => ⟨by omega, first 1 (by omega) ?_⟩) (fun q => ⟨by omega, first 0 (by omega) ?_⟩)⟩⟩
            · rw [(k2 (by omega)).mp q]; rfl
            · rw [show fk_k (ar (T0 p)) (fd_g f (T0 p)) 0 = true from by
                cases hk : fk_k (ar (T0 p)) (fd_g f (T0 p)) 0 with
                | true => rfl
                | false => exact absurd ((k2 (by omega)).mpr hk) q]
              rfl
        have efl : fl_f ar (fd_sh ar f) (fd_rt ar f) (tx_t T0 p (n + 1)) (false :: ds) = if fd_rt ar f (T0 p) then T0 p :: fl_f ar (fd_sh ar f) (fd_rt ar f) (tx_t T0 (p + 1) n) (fd_sh ar f (T0 p) ++ ds) else fl_f ar (fd_sh ar f) (fd_rt ar f) (tx_t T0 (p + 1) n) (fd_sh ar f (T0 p) ++ ds) := rfl
        rw [efl] at hc hcat
        simp (disch := omega) only [wX_filterText_16, wX_filterText_52, li_0, li_1, li_2, li_3, li_4, li_5, li_6, li_7, li_8, li_11, li_15, li_16, li_24, li_32, li_112, li_144, li_152, li_160, li_192, li_240, li_255, li_256, li_272, li_280, li_288, li_1295, li_1296, nI_add, pk_mul, pk_sub, ni_m1, nI_clamp, ni_in, nI_leI, nI_ltI, nI_eq, forall_eq, na_at, na_upd, Nat.zero_add, Nat.add_zero, eT, es, b4]
        refine br_f (by omega) (br_f (by omega) ⟨by omega, br_t (by omega) (br_f (by omega) ⟨by omega, by omega, ?_⟩)⟩)
        refine br_c (fun q => ?_) (fun q => ?_)
        · have hr : fd_rt ar f (T0 p) = false := k4.mp q
          rw [hr] at hc hcat
          exact key c T hT hTo hc hcat
        · have hr : fd_rt ar f (T0 p) = true := by
            cases hk : fd_rt ar f (T0 p) with
            | true => rfl
            | false => exact absurd (k4.mpr hk) q
          rw [hr, if_pos rfl] at hc hcat
          rw [List.length_cons] at hc
          refine ⟨by omega, key (c + 1) (na_u T (to + c) (T0 p)) ?_ ?_ (by omega) ?_⟩
          · intro k
            unfold na_u
            split
            · exact t1
            · exact hT k
          · intro k hk
            rw [na_un (by omega)]
            exact hTo k hk
          · rw [tx_app, List.append_assoc]
            have e1 : tx_t (na_u T (to + c) (T0 p)) to c = tx_t T to c := tx_congr fun i hi => na_un (by omega)
            have e2 : tx_t (na_u T (to + c) (T0 p)) (to + c) 1 = [T0 p] := by
              show [na_u T (to + c) (T0 p) (to + c)] = [T0 p]
              rw [na_us]
            rw [e1, e2]
            exact hcat
      · -- a dropped argument begins
        have hd1 : d = true := hd.mpr (Or.inr hcp)
        subst hd1
        have key := ih N (p + 1) c (p + tx_z ar T0 p) ct (List.replicate (ar (T0 p)) true ++ ds) T (by omega) (by omega) (by omega) (by omega) (st_tail hM0 (List.length_replicate ..))
          (st_push (by omega) hM0 (List.length_replicate ..) hS (fun g hg h1 h2 h3 => ⟨⟨fun _ => Or.inl (by omega), fun _ => st_rep _ _ hg⟩, fun _ => by omega⟩) (fun d q hqz hq => ⟨⟨fun z => by have := hq.1.mp z; omega, fun z => hq.1.mpr (by omega)⟩, fun z => by omega⟩))
          hT hTo hc hcat hct hctb
        simp (disch := omega) only [wX_filterText_16, li_0, li_1, li_2, li_3, li_4, li_5, li_6, li_7, li_8, li_11, li_15, li_16, li_24, li_32, li_112, li_144, li_152, li_160, li_192, li_240, li_255, li_256, li_272, li_280, li_288, li_1295, li_1296, nI_add, pk_mul, pk_sub, ni_m1, nI_clamp, ni_in, nI_leI, nI_ltI, nI_eq, forall_eq, na_at, na_upd, Nat.zero_add, Nat.add_zero, ep]
        exact br_f (by omega) (br_f (by omega) ⟨by omega, br_f (by omega) ⟨by omega, key⟩⟩)
theorem zx_filterText {post : SX → Prop} {T0 ar sh kp en0 ct0 : Nat → Nat} {f b n0 to : Nat} (hA : fd_A ar) (hf : fd_L ar f)
    (hq : ∀ t, t < 8 → x_arity t = nI (ar t)) (hsh : ∀ t, t < 8 → sh t = fk_x (ar t) (fd_g f t)) (hkp : ∀ t, t < 8 → kp t = fd_kp ar f t)
    (hT0 : ∀ k, T0 k < 8) (hn0 : n0 ≤ 8) (hb : b + n0 ≤ 272) (hto : 272 ≤ to) (hto2 : to + 8 ≤ 320) (hen : ∀ k, b ≤ k → k < b + n0 → en0 k = k + tx_z ar T0 k)
    (hl : tx_T ar (tx_t T0 b n0)) (hct : ∀ k, ct0 k < 2) (hcb : ct0 b = 0)
    (hp : ∀ T en ct, (∀ k, T k < 8) → (∀ k, k < to ∨ to + 8 ≤ k → T k = T0 k) → tx_t T to (fd_f ar f (tx_t T0 b n0)).length = fd_f ar f (tx_t T0 b n0) → (∀ k, to ≤ k → k < to + (fd_f ar f (tx_t T0 b n0)).length → en k = k + tx_z (fd_kp ar f) T k) →
      (∀ k, k < to ∨ to + 8 ≤ k → en k = en0 k) → (∀ k, ct k < 2) → (∀ k, k ≤ b ∨ b + n0 ≤ k → ct k = ct0 k) → post (x_pairSlot, x_subjectBase, x_filteredLeft, x_filteredRight, x_scratch, x_allOrders, x_equalMark, x_termCells, x_phase, x_ruleCount, x_pairCount, x_lineCount, x_defined, x_openSide, x_openMissing, x_subjectLength, x_subjectMissing, na_F T, na_F en, na_F ct, x_length, x_precedences, x_above, x_greater, x_relation, x_arity, na_F sh, na_F kp, x_bound, x_links, x_lines)) :
    wpX_filterText post (x_pairSlot, x_subjectBase, x_filteredLeft, x_filteredRight, x_scratch, x_allOrders, x_equalMark, x_termCells, x_phase, x_ruleCount, x_pairCount, x_lineCount, x_defined, x_openSide, x_openMissing, x_subjectLength, x_subjectMissing, na_F T0, na_F en0, na_F ct0, x_length, x_precedences, x_above, x_greater, x_relation, x_arity, na_F sh, na_F kp, x_bound, x_links, x_lines) (nI b) (nI to) := by
  have p1 : 0 < n0 := by have := tx_T_pos hl; rw [tx_len] at this; exact this
  have ez : tx_z ar T0 b = n0 := tx_z_of hl (by omega)
  have e1 := hen b (by omega) (by omega)
  rw [ez] at e1
  have hol : (fd_f ar f (tx_t T0 b n0)).length ≤ 8 := by
    have := fd_len ar f (tx_t T0 b n0)
    rw [tx_len] at this
    omega
  have key := zx_ft16 hA hf hq hsh hkp hT0 hn0 hb hto hto2 hen (fd_T hA hf hl) hol hp n0 (n0 + 1) b 0 b ct0 [false] T0 (by omega) rfl (by omega) (by omega) hl
    ⟨⟨⟨fun z => absurd z (by decide), fun z => by omega⟩, fun z => by omega⟩, trivial⟩ hT0 (fun _ _ => rfl) (Nat.zero_add _) rfl hct (fun _ _ => rfl)
  unfold wpX_filterText
  simp (disch := omega) only [li_0, li_1, li_2, li_3, li_4, li_5, li_6, li_7, li_8, li_11, li_15, li_16, li_24, li_32, li_112, li_144, li_152, li_160, li_192, li_240, li_255, li_256, li_272, li_280, li_288, li_1295, li_1296, nI_add, pk_mul, pk_sub, ni_m1, nI_clamp, ni_in, nI_leI, nI_ltI, nI_eq, forall_eq, na_at, na_upd, Nat.zero_add, Nat.add_zero, e1]
  exact ⟨by omega, _, key⟩
end
end
section
section
variable {y_cap y_phase y_rules y_pairs y_lines y_size : Int32} {y_m y_ar y_len y_pairAt y_rec y_digit y_level y_bind y_hide y_gt y_fit y_path : Nat → Int32}
theorem zy_st112 {post : Int32 → SY → Prop} {J37 J76 : Int32 → Int32 → (Nat → Int32) → (Nat → Int32) → (Nat → Int32) → (Nat → Int32) → (Nat → Int32) → (Nat → Int32) → (Nat → Int32) → (Nat → Int32) → (Nat → Int32) → (Nat → Int32) → (Nat → Int32) → (Nat → Int32) → Prop} {x2 x3 x4 x5 x6 : Int32} {b g e k0 : Nat} {hd0 : Nat → Nat} (hb : b ≤ k0) (he : e ≤ b + 8) (hb2 : b < 1000) (hg : g < 3)
    (hJ : ∀ hd, (∀ j, hd j = if k0 ≤ b + j ∧ b + j < e then 1 else hd0 j) → J76 (nI e) (nI (g + 1)) y_m y_ar y_len y_pairAt y_rec y_digit y_level y_bind (na_F hd) y_gt y_fit y_path) :
    ∀ d N k hd, d < N → k + d = e → k0 ≤ k → (∀ j, hd j = if k0 ≤ b + j ∧ b + j < k then 1 else hd0 j) →
      wY_strain_112 post J37 J76 (nI b) x2 x3 x4 x5 x6 (nI g) (nI e) y_cap y_phase y_rules y_pairs y_lines y_size N (nI k) y_m y_ar y_len y_pairAt y_rec y_digit y_level y_bind (na_F hd) y_gt y_fit y_path := by
  intro d
  induction d with
  | zero =>
    intro N k hd hN hk hk0 h
    obtain ⟨N, rfl⟩ : ∃ M, N = M + 1 := ⟨N - 1, by omega⟩
    have ek : k = e := by omega
    subst ek
    have := hJ hd h
    simp (disch := omega) only [wY_strain_112, li_0, li_1, li_2, li_3, li_4, li_5, li_6, li_7, li_8, li_11, li_15, li_16, li_24, li_32, li_112, li_144, li_152, li_160, li_192, li_240, li_255, li_256, li_272, li_280, li_288, li_1295, li_1296, nI_add, pk_mul, pk_sub, ni_m1, nI_clamp, ni_in, nI_leI, nI_ltI, nI_eq, forall_eq, na_at, na_upd, Nat.zero_add, Nat.add_zero]
    exact br_t (by omega) this
  | succ d ih =>
    intro N k hd hN hk hk0 h
    obtain ⟨N, rfl⟩ : ∃ M, N = M + 1 := ⟨N - 1, by omega⟩
    have key := ih N (k + 1) (na_u hd (k - b) 1) (by omega) (by omega) (by omega) (by
      intro j
      by_cases hj : j = k - b
      · subst hj
        rw [na_us, if_pos (by omega)]
      · rw [na_un hj, h]
        by_cases hc : k0 ≤ b + j ∧ b + j < k
        · rw [if_pos hc, if_pos (by omega)]
        · rw [if_neg hc, if_neg (by omega)])
    simp (disch := omega) only [wY_strain_112, li_0, li_1, li_2, li_3, li_4, li_5, li_6, li_7, li_8, li_11, li_15, li_16, li_24, li_32, li_112, li_144, li_152, li_160, li_192, li_240, li_255, li_256, li_272, li_280, li_288, li_1295, li_1296, nI_add, pk_mul, pk_sub, ni_m1, nI_clamp, ni_in, nI_leI, nI_ltI, nI_eq, forall_eq, na_at, na_upd, Nat.zero_add, Nat.add_zero, ni_b1]
    exact br_f (by omega) ⟨by omega, key⟩
theorem zy_st76 {post : Int32 → SY → Prop} {J37 : Int32 → Int32 → (Nat → Int32) → (Nat → Int32) → (Nat → Int32) → (Nat → Int32) → (Nat → Int32) → (Nat → Int32) → (Nat → Int32) → (Nat → Int32) → (Nat → Int32) → (Nat → Int32) → (Nat → Int32) → (Nat → Int32) → Prop} {x3 : Int32} {T T0 ar hd0 : Nat → Nat} {f b n0 to c p : Nat} (hA : fd_A ar) (hf : fd_L ar f)
    (hq : ∀ t, t < 8 → y_ar t = nI (ar t)) (hdg : ∀ t, t < 8 → y_digit t = nI (fd_g f t)) (hT : ∀ k, T k < 8)
    (hTo : ∀ k, k < to → T k = T0 k) (hn0 : n0 ≤ 8) (hb : b + n0 ≤ to) (hto2 : to ≤ 184) (hc : c ≤ 8) (hbp : b ≤ p) (hpz : p + tx_z ar T0 p ≤ b + n0) (z1 : tx_T ar (tx_t T0 p (tx_z ar T0 p)))
    (h0 : ∀ k, p ≤ k → k < p + tx_z ar T0 p → hd0 (k - b) = 0)
    (hJ : ∀ hd, (∀ g, g < ar (T0 p) → ∀ k, tx_g ar T0 p g ≤ k → k < tx_g ar T0 p g + tx_z ar T0 (tx_g ar T0 p g) → hd (k - b) = if fk_k (ar (T0 p)) (fd_g f (T0 p)) g then 0 else 1) →
      (∀ j, p + tx_z ar T0 p ≤ b + j → hd j = hd0 j) → (∀ j, hd0 j < 2 → hd j < 2) →
      (fd_rt ar f (T0 p) = true → c < 8 ∧ J37 (nI (c + 1)) (nI (p + 1)) (na_F (na_u T (to + c) (T0 p))) y_ar y_len y_pairAt y_rec y_digit y_level y_bind (na_F hd) y_gt y_fit y_path) ∧
      (fd_rt ar f (T0 p) = false → J37 (nI c) (nI (p + 1)) (na_F T) y_ar y_len y_pairAt y_rec y_digit y_level y_bind (na_F hd) y_gt y_fit y_path)) :
    ∀ d N g hd, d < N → g + d = ar (T0 p) →
      (∀ h, h < g → ∀ k, tx_g ar T0 p h ≤ k → k < tx_g ar T0 p h + tx_z ar T0 (tx_g ar T0 p h) → hd (k - b) = if fk_k (ar (T0 p)) (fd_g f (T0 p)) h then 0 else 1) →
      (∀ j, tx_g ar T0 p g ≤ b + j → hd j = hd0 j) → (∀ j, hd0 j < 2 → hd j < 2) →
      wY_strain_76 post J37 (nI b) (nI to) x3 (nI c) (nI p) (nI (T0 p)) y_cap y_phase y_rules y_pairs y_lines y_size N (nI (tx_g ar T0 p g)) (nI g) (na_F T) y_ar y_len y_pairAt y_rec y_digit y_level y_bind (na_F hd) y_gt y_fit y_path := by
  have zb : tx_z ar T0 p ≤ 8 := by omega
  have t1 : T0 p < 8 := by
    have : p < p + tx_z ar T0 p := by
      have := tx_T_pos z1
      rw [tx_len] at this
      omega
    rw [← hTo p (by omega)]
    exact hT p
  have a3 := fd_A3 hA (T0 p)
  have d6 := fk_d6 _ _ (fd_lt hA hf (T0 p))
  have e1 := hq _ t1
  have e2 := hdg _ t1
  intro d
  induction d with
  | zero =>
    intro N g hd hN hg h1 h2 h3
    obtain ⟨N, rfl⟩ : ∃ M, N = M + 1 := ⟨N - 1, by omega⟩
    have eg : g = ar (T0 p) := by omega
    subst eg
    rw [tx_arge z1 (by omega)] at h2
    obtain ⟨j1, j2⟩ := hJ hd h1 h2 h3
    have hr : fd_rt ar f (T0 p) = !(decide (4 ≤ fd_g f (T0 p)) || (decide (ar (T0 p) = 1) && decide (fd_g f (T0 p) = 2))) := rfl
    simp (disch := omega) only [wY_strain_76, wY_strain_181, li_0, li_1, li_2, li_3, li_4, li_5, li_6, li_7, li_8, li_11, li_15, li_16, li_24, li_32, li_112, li_144, li_152, li_160, li_192, li_240, li_255, li_256, li_272, li_280, li_288, li_1295, li_1296, nI_add, pk_mul, pk_sub, ni_m1, nI_clamp, ni_in, nI_leI, nI_ltI, nI_eq, forall_eq, na_at, na_upd, Nat.zero_add, Nat.add_zero, e1, e2]
    refine ⟨by omega, br_t (by omega) ⟨by omega, br_c (fun q => j2 ?_) (fun q => ⟨by omega, br_c (fun q2 => ⟨by omega, br_c (fun q3 => j2 ?_) (fun q3 => ?_)⟩) (fun q2 => ?_)⟩)⟩⟩
    · rw [hr]; simp [q]
    · rw [hr]; simp [q2, q3]
    · have := j1 (by rw [hr]; simp [q, q3])
      exact ⟨by omega, this.2⟩
    · have := j1 (by rw [hr]; simp [q, q2])
      exact ⟨by omega, this.2⟩
  | succ d ih =>
    intro N g hd hN hg h1 h2 h3
    obtain ⟨N, rfl⟩ : ∃ M, N = M + 1 := ⟨N - 1, by omega⟩
    obtain ⟨q1, q2, q3, q4, q5⟩ := tx_args (g := g) z1 (by omega) (by omega)
    have hgS : tx_g ar T0 p (g + 1) = tx_g ar T0 p g + tx_z ar T0 (tx_g ar T0 p g) := rfl
    have eT : tx_t T (tx_g ar T0 p g) (tx_z ar T0 (tx_g ar T0 p g)) = tx_t T0 (tx_g ar T0 p g) (tx_z ar T0 (tx_g ar T0 p g)) := tx_congr fun i hi => hTo _ (by omega)
    simp (disch := omega) only [wY_strain_76, li_0, li_1, li_2, li_3, li_4, li_5, li_6, li_7, li_8, li_11, li_15, li_16, li_24, li_32, li_112, li_144, li_152, li_160, li_192, li_240, li_255, li_256, li_272, li_280, li_288, li_1295, li_1296, nI_add, pk_mul, pk_sub, ni_m1, nI_clamp, ni_in, nI_leI, nI_ltI, nI_eq, forall_eq, na_at, na_upd, Nat.zero_add, Nat.add_zero, e1]
    refine ⟨by omega, br_f (by omega) ?_⟩
    refine zy_end0 (n := tx_z ar T0 (tx_g ar T0 p g)) hT hq (fd_A3 hA) (by omega) (by rw [eT]; exact q3) ?_
    refine zy_kept (dg := fd_g f) t1 (by omega) hq hdg a3 d6 (fun hk => ?_) (fun hk => ?_)
    · refine br_f (by decide) ?_
      refine ih N (g + 1) hd (by omega) (by omega) ?_ (fun j hj => h2 j (by omega)) h3
      intro h hh k hk1 hk2
      by_cases e : h = g
      · subst e
        rw [hk, h2 (k - b) (by omega), h0 k (by omega) (by omega)]
        rfl
      · exact h1 h (by omega) k hk1 hk2
    · refine br_t (by decide) ⟨tx_z ar T0 (tx_g ar T0 p g) + 1, ?_⟩
      refine zy_st112 (hd0 := hd) (k0 := tx_g ar T0 p g) (by omega) (by omega) (by omega) (by omega) ?_ (tx_z ar T0 (tx_g ar T0 p g)) _ _ hd (by omega) rfl (by omega) (fun j => by rw [if_neg (by omega)])
      intro hd' hd1
      refine ih N (g + 1) hd' (by omega) (by omega) ?_ ?_ ?_
      · intro h hh k hk1 hk2
        by_cases e : h = g
        · subst e
          rw [hd1, hk, if_pos (by omega)]
          rfl
        · have hlt : tx_g ar T0 p h + tx_z ar T0 (tx_g ar T0 p h) ≤ tx_g ar T0 p g := by
            have hh3 : h = 0 ∧ g = 1 := by omega
            obtain ⟨e1, e2⟩ := hh3
            subst e1
            subst e2
            exact Nat.le_refl _
          have hgp : b ≤ tx_g ar T0 p h := by
            obtain ⟨w1, _⟩ := tx_args (g := h) z1 (by omega) (by omega)
            omega
          rw [hd1, if_neg (by omega)]
          exact h1 h (by omega) k hk1 hk2
      · intro j hj
        rw [hd1, if_neg (by omega)]
        exact h2 j (by omega)
      · intro j hj
        rw [hd1]
        split
        · omega
        · exact h3 j hj
def fy_Q (a T : Nat → Nat) (b : Nat) (hd : Nat → Nat) (d : Bool) (q : Nat) : Prop := ∀ k, q ≤ k → k < q + tx_z a T q → hd (k - b) = if d then 1 else 0
theorem zy_st37 {post : Int32 → SY → Prop} {T0 ar : Nat → Nat} {f b n0 to : Nat} {out : List Nat} (hA : fd_A ar) (hf : fd_L ar f)
    (hq : ∀ t, t < 8 → y_ar t = nI (ar t)) (hdg : ∀ t, t < 8 → y_digit t = nI (fd_g f t))
    (hT0 : ∀ k, T0 k < 8) (hn0 : n0 ≤ 8) (hb : b + n0 ≤ to) (hto2 : to ≤ 184) (hol : out.length ≤ 8)
    (hp : ∀ T hd, (∀ k, T k < 8) → (∀ k, k < to ∨ to + 8 ≤ k → T k = T0 k) → tx_t T to out.length = out → (∀ j, hd j < 2) → post (nI out.length) (y_cap, y_phase, y_rules, y_pairs, y_lines, y_size, na_F T, y_ar, y_len, y_pairAt, y_rec, y_digit, y_level, y_bind, na_F hd, y_gt, y_fit, y_path)) :
    ∀ n N p c hd ds T, n < N → p + n = b + n0 → b ≤ p → tx_M ar (tx_t T0 p n) ds.length 0 → st_I ar T0 (fy_Q ar T0 b hd) ds p →
      (∀ k, T k < 8) → (∀ k, k < to ∨ to + 8 ≤ k → T k = T0 k) → c + (fl_f ar (fd_sh ar f) (fd_rt ar f) (tx_t T0 p n) ds).length = out.length →
      tx_t T to c ++ fl_f ar (fd_sh ar f) (fd_rt ar f) (tx_t T0 p n) ds = out → (∀ j, hd j < 2) →
      wY_strain_37 post (nI b) (nI to) (nI (b + n0)) y_cap y_phase y_rules y_pairs y_lines y_size N (nI c) (nI p) (na_F T) y_ar y_len y_pairAt y_rec y_digit y_level y_bind (na_F hd) y_gt y_fit y_path := by
  intro n
  induction n with
  | zero =>
    intro N p c hd ds T hN hpe hbp hM hS hT hTo hc hcat hhd
    obtain ⟨N, rfl⟩ : ∃ M, N = M + 1 := ⟨N - 1, by omega⟩
    have hl : fl_f ar (fd_sh ar f) (fd_rt ar f) (tx_t T0 p 0) ds = [] := rfl
    rw [hl, List.append_nil] at hcat
    rw [hl] at hc
    have hc' : c = out.length := hc
    simp (disch := omega) only [wY_strain_37, li_0, li_1, li_2, li_3, li_4, li_5, li_6, li_7, li_8, li_11, li_15, li_16, li_24, li_32, li_112, li_144, li_152, li_160, li_192, li_240, li_255, li_256, li_272, li_280, li_288, li_1295, li_1296, nI_add, pk_mul, pk_sub, ni_m1, nI_clamp, ni_in, nI_leI, nI_ltI, nI_eq, forall_eq, na_at, na_upd, Nat.zero_add, Nat.add_zero]
    refine br_t (by omega) ?_
    rw [hc']
    exact hp T hd hT hTo (by rw [← hc']; exact hcat) hhd
  | succ n ih =>
    intro N p c hd ds T hN hpe hbp hM hS hT hTo hc hcat hhd
    obtain ⟨N, rfl⟩ : ∃ M, N = M + 1 := ⟨N - 1, by omega⟩
    have t1 := hT0 p
    have eT : T p = T0 p := hTo p (by omega)
    have c1 := hhd (p - b)
    have a3 := fd_A3 hA (T0 p)
    have hM0 := hM
    obtain ⟨m0, em, hM1⟩ := hM
    cases ds with
    | nil => exact absurd em (by show ¬ 0 = m0 + 1; omega)
    | cons d ds =>
    obtain ⟨z1, z2, z3⟩ := tx_subz (j := 0) hM0 (by omega) (by omega)
    rw [Nat.add_zero] at z1 z2 z3
    have hd0 := hS.1 p (Nat.le_refl _) (by omega)
    cases d with
    | true =>
      have hd1 : hd (p - b) = 1 := hd0
      have key := ih N (p + 1) c hd (List.replicate (ar (T0 p)) true ++ ds) T (by omega) (by omega) (by omega) (st_tail hM0 (List.length_replicate ..))
        (st_push (by omega) hM0 (List.length_replicate ..) hS (fun g hg h1 h2 h3 => by
          rw [st_rep _ _ hg]
          intro k hk1 hk2
          exact hS.1 k (by omega) (by omega)) (fun d q _ hq => hq))
        hT hTo hc hcat hhd
      simp (disch := omega) only [wY_strain_37, li_0, li_1, li_2, li_3, li_4, li_5, li_6, li_7, li_8, li_11, li_15, li_16, li_24, li_32, li_112, li_144, li_152, li_160, li_192, li_240, li_255, li_256, li_272, li_280, li_288, li_1295, li_1296, nI_add, pk_mul, pk_sub, ni_m1, nI_clamp, ni_in, nI_leI, nI_ltI, nI_eq, forall_eq, na_at, na_upd, Nat.zero_add, Nat.add_zero]
      exact br_f (by omega) ⟨by omega, br_f (by omega) key⟩
    | false =>
      have hd1 : hd (p - b) = 0 := hd0
      have efl : fl_f ar (fd_sh ar f) (fd_rt ar f) (tx_t T0 p (n + 1)) (false :: ds) = if fd_rt ar f (T0 p) then T0 p :: fl_f ar (fd_sh ar f) (fd_rt ar f) (tx_t T0 (p + 1) n) (fd_sh ar f (T0 p) ++ ds) else fl_f ar (fd_sh ar f) (fd_rt ar f) (tx_t T0 (p + 1) n) (fd_sh ar f (T0 p) ++ ds) := rfl
      rw [efl] at hc hcat
      simp (disch := omega) only [wY_strain_37, li_0, li_1, li_2, li_3, li_4, li_5, li_6, li_7, li_8, li_11, li_15, li_16, li_24, li_32, li_112, li_144, li_152, li_160, li_192, li_240, li_255, li_256, li_272, li_280, li_288, li_1295, li_1296, nI_add, pk_mul, pk_sub, ni_m1, nI_clamp, ni_in, nI_leI, nI_ltI, nI_eq, forall_eq, na_at, na_upd, Nat.zero_add, Nat.add_zero, eT]
      refine br_f (by omega) ⟨by omega, br_t (by omega) ⟨by omega, 4, ?_⟩⟩
      refine zy_st76 (T := T) (hd0 := hd) (n0 := n0) hA hf hq hdg hT (fun k hk => hTo k (by omega)) hn0 hb hto2 (by omega) hbp (by omega) z1 (fun k hk1 hk2 => hS.1 k hk1 hk2) ?_ (ar (T0 p)) 4 0 hd (by omega) (by omega) (fun h hh => by omega) (fun _ _ => rfl) (fun _ h => h)
      intro hd' hg1 hg2 hg3
      have push : st_I ar T0 (fy_Q ar T0 b hd') (fd_sh ar f (T0 p) ++ ds) (p + 1) := by
        refine st_push (by omega) hM0 (fk_len _ _) hS (fun g hg h1 h2 h3 => ?_) (fun d q hqz hq => ?_)
        · have e1 : (fd_sh ar f (T0 p)).getD g false = !fk_k (ar (T0 p)) (fd_g f (T0 p)) g := st_fks hg
          rw [e1]
          intro k hk1 hk2
          rw [hg1 g hg k hk1 hk2]
          cases fk_k (ar (T0 p)) (fd_g f (T0 p)) g <;> rfl
        · intro k hk1 hk2
          rw [hg2 (k - b) (by omega)]
          exact hq k hk1 hk2
      refine ⟨fun hr => ?_, fun hr => ?_⟩
      · rw [hr, if_pos rfl] at hc hcat
        rw [List.length_cons] at hc
        refine ⟨by omega, ih N (p + 1) (c + 1) hd' (fd_sh ar f (T0 p) ++ ds) (na_u T (to + c) (T0 p)) (by omega) (by omega) (by omega) (st_tail hM0 (fk_len _ _)) push ?_ ?_ (by omega) ?_ (fun j => hg3 j (hhd j))⟩
        · intro k
          unfold na_u
          split
          · exact t1
          · exact hT k
        · intro k hk
          rw [na_un (by omega)]
          exact hTo k hk
        · rw [tx_app, List.append_assoc]
          have e1 : tx_t (na_u T (to + c) (T0 p)) to c = tx_t T to c := tx_congr fun i hi => na_un (by omega)
          have e2 : tx_t (na_u T (to + c) (T0 p)) (to + c) 1 = [T0 p] := by
            show [na_u T (to + c) (T0 p) (to + c)] = [T0 p]
            rw [na_us]
          rw [e1, e2]
          exact hcat
      · rw [hr] at hc hcat
        exact ih N (p + 1) c hd' (fd_sh ar f (T0 p) ++ ds) T (by omega) (by omega) (by omega) (st_tail hM0 (fk_len _ _)) push hT hTo hc hcat (fun j => hg3 j (hhd j))
theorem zy_strain {post : Int32 → SY → Prop} {T0 ar hd0 : Nat → Nat} {f b n0 to : Nat} (hA : fd_A ar) (hf : fd_L ar f)
    (hq : ∀ t, t < 8 → y_ar t = nI (ar t)) (hdg : ∀ t, t < 8 → y_digit t = nI (fd_g f t))
    (hT0 : ∀ k, T0 k < 8) (hn0 : n0 ≤ 8) (hb : b + n0 ≤ to) (hto2 : to ≤ 184) (hl : tx_T ar (tx_t T0 b n0)) (hh0 : ∀ j, hd0 j < 2)
    (hp : ∀ T hd, (∀ k, T k < 8) → (∀ k, k < to ∨ to + 8 ≤ k → T k = T0 k) → tx_t T to (fd_f ar f (tx_t T0 b n0)).length = fd_f ar f (tx_t T0 b n0) → (∀ j, hd j < 2) → post (nI (fd_f ar f (tx_t T0 b n0)).length) (y_cap, y_phase, y_rules, y_pairs, y_lines, y_size, na_F T, y_ar, y_len, y_pairAt, y_rec, y_digit, y_level, y_bind, na_F hd, y_gt, y_fit, y_path)) :
    wpY_strain post (y_cap, y_phase, y_rules, y_pairs, y_lines, y_size, na_F T0, y_ar, y_len, y_pairAt, y_rec, y_digit, y_level, y_bind, na_F hd0, y_gt, y_fit, y_path) (nI b) (nI to) := by
  have hol : (fd_f ar f (tx_t T0 b n0)).length ≤ 8 := by
    have := fd_len ar f (tx_t T0 b n0)
    rw [tx_len] at this
    omega
  have k13 : ∀ d N i hd, d < N → i + d = 8 → (∀ j, j < i → hd j = 0) → (∀ j, hd j < 2) → wY_strain_13 post (nI b) (nI to) (nI (b + n0)) (nI 0) y_cap y_phase y_rules y_pairs y_lines y_size N (nI i) (na_F T0) y_ar y_len y_pairAt y_rec y_digit y_level y_bind (na_F hd) y_gt y_fit y_path := by
    intro d
    induction d with
    | zero =>
      intro N i hd hN hi h1 h2
      obtain ⟨N, rfl⟩ : ∃ M, N = M + 1 := ⟨N - 1, by omega⟩
      have ei : i = 8 := by omega
      subst ei
      have key := zy_st37 hA hf hq hdg hT0 hn0 hb hto2 hol hp n0 (n0 + 1) b 0 hd [false] T0 (by omega) rfl (by omega) hl
        ⟨fun k hk1 hk2 => by
          have ez : tx_z ar T0 b = n0 := tx_z_of hl (by omega)
          exact h1 (k - b) (by omega), trivial⟩ hT0 (fun _ _ => rfl) (Nat.zero_add _) rfl h2
      exact br_t (by decide) ⟨_, key⟩
    | succ d ih =>
      intro N i hd hN hi h1 h2
      obtain ⟨N, rfl⟩ : ∃ M, N = M + 1 := ⟨N - 1, by omega⟩
      have key := ih N (i + 1) (na_u hd i 0) (by omega) (by omega) (fun j hj => by
        by_cases e : j = i
        · subst e; exact na_us _ _ _
        · rw [na_un e]; exact h1 j (by omega)) (fun j => by
        unfold na_u
        split
        · omega
        · exact h2 j)
      simp (disch := omega) only [wY_strain_13, li_0, li_1, li_2, li_3, li_4, li_5, li_6, li_7, li_8, li_11, li_15, li_16, li_24, li_32, li_112, li_144, li_152, li_160, li_192, li_240, li_255, li_256, li_272, li_280, li_288, li_1295, li_1296, nI_add, pk_mul, pk_sub, ni_m1, nI_clamp, ni_in, nI_leI, nI_ltI, nI_eq, forall_eq, na_at, na_upd, Nat.zero_add, Nat.add_zero, ni_b0]
      exact br_f (by omega) ⟨by omega, key⟩
  unfold wpY_strain
  refine zy_end0 hT0 hq (fd_A3 hA) (by omega) hl ?_
  exact ⟨9, k13 8 9 0 hd0 (by omega) (by omega) (fun j hj => by omega) hh0⟩
end
end
section
section
variable {x_pairSlot x_subjectBase x_filteredLeft x_filteredRight x_scratch x_allOrders x_equalMark x_termCells x_phase x_ruleCount x_pairCount x_lineCount x_defined x_openSide x_openMissing x_subjectLength x_subjectMissing : Int32} {x_tok x_end x_cut x_length x_precedences x_above x_greater x_relation x_arity x_shape x_kept x_bound x_links x_lines : Nat → Int32}
/-! the canonical table depends on the texts alone -/
theorem po_Sext {kp L R L' R' : Nat → Nat} {nL nR : Nat} (hL : tx_T kp (tx_t L 0 nL)) (hR : tx_T kp (tx_t R 0 nR)) (bL : nL ≤ 8) (bR : nR ≤ 8) (eL : tx_t L 0 nL = tx_t L' 0 nL) (eR : tx_t R 0 nR = tx_t R' 0 nR) {x y : Nat} (hx : x < nL) (hy : y < nR) :
    po_S kp L R x y ↔ po_S kp L' R' x y := by
  have hL' := hL
  rw [eL] at hL'
  have hR' := hR
  rw [eR] at hR'
  have a1 := tx_zeq hL (by omega) eL hx
  have a2 := tx_zeq hR (by omega) eR hy
  rw [Nat.zero_add] at a1 a2
  obtain ⟨z1, z2, z3⟩ := tx_subk hL (by omega) (Nat.zero_le x) (by omega)
  obtain ⟨w1, w2, w3⟩ := tx_subk hR (by omega) (Nat.zero_le y) (by omega)
  rw [po_sym hL hR bL bR hx hy, po_sym hL' hR' bL bR hx hy, ← a1.2, ← a2.2]
  have tL : ∀ i, i < nL → L i = L' i := fun i hi => by
    have := (tx_eq nL 0 0).mp eL i hi
    rw [Nat.zero_add] at this
    exact this
  have tR : ∀ i, i < nR → R i = R' i := fun i hi => by
    have := (tx_eq nR 0 0).mp eR i hi
    rw [Nat.zero_add] at this
    exact this
  constructor
  · rintro ⟨e, h⟩
    refine ⟨e, fun i hi => ?_⟩
    rw [← tL _ (by omega), ← tR _ (by omega)]
    exact h i hi
  · rintro ⟨e, h⟩
    refine ⟨e, fun i hi => ?_⟩
    rw [tL _ (by omega), tR _ (by omega)]
    exact h i hi
theorem po_ext {kp L R L' R' lv : Nat → Nat} {nL nR : Nat} (hL : tx_T kp (tx_t L 0 nL)) (hR : tx_T kp (tx_t R 0 nR)) (bL : nL ≤ 8) (bR : nR ≤ 8) (eL : tx_t L 0 nL = tx_t L' 0 nL) (eR : tx_t R 0 nR = tx_t R' 0 nR) :
    ∀ n i j, i < nL → j < nR → (po_n kp L R lv n i j ↔ po_n kp L' R' lv n i j) := by
  intro n
  induction n with
  | zero => intro i j _ _; exact Iff.rfl
  | succ n ih =>
    intro i j hi hj
    obtain ⟨z1, z2, z3⟩ := tx_subk hL (by omega) (Nat.zero_le i) (by omega)
    obtain ⟨w1, w2, w3⟩ := tx_subk hR (by omega) (Nat.zero_le j) (by omega)
    have a1 := tx_zeq hL (by omega) eL hi
    have a2 := tx_zeq hR (by omega) eR hj
    rw [Nat.zero_add] at a1 a2
    have e1 : tx_t L i (tx_z kp L i) = tx_t L' i (tx_z kp L i) := by
      have := tx_mid (j := i) (m := tx_z kp L i) eL (by omega)
      rw [Nat.zero_add] at this
      exact this
    have e2 : tx_t R j (tx_z kp R j) = tx_t R' j (tx_z kp R j) := by
      have := tx_mid (j := j) (m := tx_z kp R j) eR (by omega)
      rw [Nat.zero_add] at this
      exact this
    have gL : ∀ g, g < kp (L i) → tx_g kp L' i g = tx_g kp L i g ∧ tx_g kp L i g < nL := fun g hg => by
      have := tx_geq z1 (by omega) e1 g (by omega)
      obtain ⟨q1, q2, _⟩ := tx_args z1 (by omega) hg
      omega
    have gR : ∀ g, g < kp (R j) → tx_g kp R' j g = tx_g kp R j g ∧ tx_g kp R j g < nR := fun g hg => by
      have := tx_geq w1 (by omega) e2 g (by omega)
      obtain ⟨q1, q2, _⟩ := tx_args w1 (by omega) hg
      omega
    have sx := fun x y hx hy => po_Sext (x := x) (y := y) hL hR bL bR eL eR hx hy
    show po_s kp L R lv (po_n kp L R lv n) i j ↔ po_s kp L' R' lv (po_n kp L' R' lv n) i j
    unfold po_s po_b
    rw [← a1.1, ← a2.1]
    have ea : po_a kp L R (po_n kp L R lv n) i j ↔ po_a kp L' R' (po_n kp L' R' lv n) i j := by
      unfold po_a
      rw [← a1.1]
      constructor
      · rintro ⟨g, hg, hc⟩
        rw [sx _ _ (gL g hg).2 hj, ih _ _ (gL g hg).2 hj, ← (gL g hg).1] at hc
        exact ⟨g, hg, hc⟩
      · rintro ⟨g, hg, hc⟩
        rw [(gL g hg).1, ← sx _ _ (gL g hg).2 hj, ← ih _ _ (gL g hg).2 hj] at hc
        exact ⟨g, hg, hc⟩
    have eb : (∀ g, g < kp (R j) → po_n kp L R lv n i (tx_g kp R j g)) ↔ (∀ g, g < kp (R j) → po_n kp L' R' lv n i (tx_g kp R' j g)) := by
      constructor
      · intro h g hg
        rw [(gR g hg).1, ← ih _ _ hi (gR g hg).2]
        exact h g hg
      · intro h g hg
        rw [ih _ _ hi (gR g hg).2, ← (gR g hg).1]
        exact h g hg
    have ex : L i = R j → (po_x kp L R (po_n kp L R lv n) i j ↔ po_x kp L' R' (po_n kp L' R' lv n) i j) := by
      intro e
      unfold po_x
      rw [← a1.1]
      constructor
      · rintro ⟨g, hg, h1, h2, h3⟩
        have hgR : g < kp (R j) := by rw [← e]; exact hg
        refine ⟨g, hg, fun h hh => ?_, fun z => h2 ?_, ?_⟩
        · rw [(gL h (by omega)).1, (gR h (by omega)).1, ← sx _ _ (gL h (by omega)).2 (gR h (by omega)).2]
          exact h1 h hh
        · rw [sx _ _ (gL g hg).2 (gR g hgR).2, ← (gL g hg).1, ← (gR g hgR).1]
          exact z
        · rw [(gL g hg).1, (gR g hgR).1, ← ih _ _ (gL g hg).2 (gR g hgR).2]
          exact h3
      · rintro ⟨g, hg, h1, h2, h3⟩
        have hgR : g < kp (R j) := by rw [← e]; exact hg
        refine ⟨g, hg, fun h hh => ?_, fun z => h2 ?_, ?_⟩
        · rw [sx _ _ (gL h (by omega)).2 (gR h (by omega)).2, ← (gL h (by omega)).1, ← (gR h (by omega)).1]
          exact h1 h hh
        · rw [(gL g hg).1, (gR g hgR).1, ← sx _ _ (gL g hg).2 (gR g hgR).2]
          exact z
        · rw [ih _ _ (gL g hg).2 (gR g hgR).2, ← (gL g hg).1, ← (gR g hgR).1]
          exact h3
    rw [ea, eb]
    constructor
    · rintro ⟨h1, h2⟩
      exact ⟨h1, h2.imp id fun ⟨q1, q2, q3, q4⟩ => ⟨q1, q2, fun e => (ex e).mp (q3 e), q4⟩⟩
    · rintro ⟨h1, h2⟩
      exact ⟨h1, h2.imp id fun ⟨q1, q2, q3, q4⟩ => ⟨q1, q2, fun e => (ex e).mpr (q3 e), q4⟩⟩
/-! the component's order -/
/-- the filtered texts L, R in the cells from bl, br on, with their ends -/
def ox_C (T en kp L R : Nat → Nat) (nL nR : Nat) : Prop :=
  (∀ k, T k < 8) ∧ (∀ t, kp t < 3) ∧ (∀ t, 4 ≤ t → kp t = 0) ∧ nL ≤ 8 ∧ nR ≤ 8 ∧ tx_T kp (tx_t L 0 nL) ∧ tx_T kp (tx_t R 0 nR) ∧
  (∀ i, T (272 + i) = L i) ∧ (∀ i, T (280 + i) = R i) ∧ (∀ i, i < nL → en (272 + i) = 272 + (i + tx_z kp L i)) ∧ (∀ i, i < nR → en (280 + i) = 280 + (i + tx_z kp R i))
def ox_G (gr : Nat → Int32) (o x y : Nat) : Prop := bt (gr (x * 8 + y)) o = true
theorem zx_sm {post : Int32 → Prop} {T en kp L R : Nat → Nat} {nL nR u v : Nat} (C : ox_C T en kp L R nL nR) (hu : u < nL) (hv : v < nR) (h1 : po_S kp L R u v → post 1) (h0 : ¬ po_S kp L R u v → post 0) :
    wpX_sameTerm post (x_pairSlot, x_subjectBase, x_filteredLeft, x_filteredRight, x_scratch, x_allOrders, x_equalMark, x_termCells, x_phase, x_ruleCount, x_pairCount, x_lineCount, x_defined, x_openSide, x_openMissing, x_subjectLength, x_subjectMissing, na_F T, na_F en, x_cut, x_length, x_precedences, x_above, x_greater, x_relation, x_arity, x_shape, x_kept, x_bound, x_links, x_lines) (nI (272 + u)) (nI (280 + v)) := by
  obtain ⟨c1, c2, c3, c4, c5, c6, c7, c8, c9, c10, c11⟩ := C
  obtain ⟨z1, z2, z3⟩ := tx_subk c6 (by omega) (Nat.zero_le u) (by omega)
  obtain ⟨w1, w2, w3⟩ := tx_subk c7 (by omega) (Nat.zero_le v) (by omega)
  have e1 : ∀ n, tx_t T (272 + u) n = tx_t L u n := fun n => tx_congr fun i _ => by rw [Nat.add_assoc, c8]
  have e2 : ∀ n, tx_t T (280 + v) n = tx_t R v n := fun n => tx_congr fun i _ => by rw [Nat.add_assoc, c9]
  refine zx_same (q := kp) (n := tx_z kp L u) (n' := tx_z kp R v) c1 (by omega) (by omega) (by omega) (by omega) (by rw [c10 u hu]; omega) (by rw [c11 v hv]; omega) (by rw [e1]; exact z1) (by rw [e2]; exact w1) ?_ ?_
  · intro h
    rw [e1, e2] at h
    exact h1 h
  · intro h
    rw [e1, e2] at h
    exact h0 h
theorem zx_lex {post : Int32 → Prop} {T en kp L R : Nat → Nat} {nL nR i j : Nat} (C : ox_C T en kp L R nL nR) (hk : ∀ t, t < 8 → x_kept t = nI (kp t)) (hi : i < nL) (hj : j < nR) (e : L i = R j)
    (hp : ∀ r, (∀ o, o < 32 → (bt r o = true ↔ po_x kp L R (ox_G x_greater o) i j)) → post r) :
    wpX_lexicographic post (x_pairSlot, x_subjectBase, x_filteredLeft, x_filteredRight, x_scratch, x_allOrders, x_equalMark, x_termCells, x_phase, x_ruleCount, x_pairCount, x_lineCount, x_defined, x_openSide, x_openMissing, x_subjectLength, x_subjectMissing, na_F T, na_F en, x_cut, x_length, x_precedences, x_above, x_greater, x_relation, x_arity, x_shape, x_kept, x_bound, x_links, x_lines) (nI (272 + i)) (nI (280 + j)) := by
  have C0 := C
  obtain ⟨c1, c2, c3, c4, c5, c6, c7, c8, c9, c10, c11⟩ := C
  obtain ⟨z1, z2, z3⟩ := tx_subk c6 (by omega) (Nat.zero_le i) (by omega)
  obtain ⟨w1, w2, w3⟩ := tx_subk c7 (by omega) (Nat.zero_le j) (by omega)
  have t1 : L i < 8 := by rw [← c8]; exact c1 _
  have ek := hk _ t1
  have k3 := c2 (L i)
  have eR : kp (R j) = kp (L i) := by rw [e]
  have key : ∀ d N g, d < N → g + d = kp (L i) → (∀ h, h < g → po_S kp L R (tx_g kp L i h) (tx_g kp R j h)) →
      wX_lexicographic_12 post (nI (272 + i)) x_pairSlot x_subjectBase x_filteredLeft x_filteredRight x_scratch x_allOrders x_equalMark x_termCells x_phase x_ruleCount x_pairCount x_lineCount x_defined x_openSide x_openMissing x_subjectLength x_subjectMissing (na_F T) (na_F en) x_cut x_length x_precedences x_above x_greater x_relation x_arity x_shape x_kept x_bound x_links x_lines N (nI (272 + tx_g kp L i g)) (nI (280 + tx_g kp R j g)) (nI g) := by
    intro d
    induction d with
    | zero =>
      intro N g hN hg hS
      obtain ⟨N, rfl⟩ : ∃ M, N = M + 1 := ⟨N - 1, by omega⟩
      have := hp 0 (fun o ho => ⟨fun z => absurd z (by rw [b_0]; decide), fun ⟨q, hq, _, h2, _⟩ => absurd (hS q (by omega)) h2⟩)
      simp (disch := omega) only [wX_lexicographic_12, li_0, li_1, li_2, li_3, li_4, li_5, li_6, li_7, li_8, li_11, li_15, li_16, li_24, li_32, li_112, li_144, li_152, li_160, li_192, li_240, li_255, li_256, li_272, li_280, li_288, li_1295, li_1296, nI_add, pk_mul, pk_sub, ni_m1, nI_clamp, ni_in, nI_leI, nI_ltI, nI_eq, forall_eq, na_at, na_upd, Nat.zero_add, Nat.add_zero, c8, ek]
      exact ⟨by omega, by omega, br_t (by omega) this⟩
    | succ d ih =>
      intro N g hN hg hS
      obtain ⟨N, rfl⟩ : ∃ M, N = M + 1 := ⟨N - 1, by omega⟩
      obtain ⟨a1, a2, a3, a4, a5⟩ := tx_args (g := g) z1 (by omega) (by omega)
      obtain ⟨b1, b2, b3, b4, b5⟩ := tx_args (g := g) w1 (by omega) (by omega)
      have e1 := c10 (tx_g kp L i g) (by omega)
      have e2 := c11 (tx_g kp R j g) (by omega)
      simp (disch := omega) only [wX_lexicographic_12, li_0, li_1, li_2, li_3, li_4, li_5, li_6, li_7, li_8, li_11, li_15, li_16, li_24, li_32, li_112, li_144, li_152, li_160, li_192, li_240, li_255, li_256, li_272, li_280, li_288, li_1295, li_1296, nI_add, pk_mul, pk_sub, ni_m1, nI_clamp, ni_in, nI_leI, nI_ltI, nI_eq, forall_eq, na_at, na_upd, Nat.zero_add, Nat.add_zero, c8, ek]
      refine ⟨by omega, by omega, br_f (by omega) ?_⟩
      refine zx_sm C0 (by omega) (by omega) (fun hs => br_f (by decide) ?_) (fun hs => br_t (by decide) ?_)
      · have := ih N (g + 1) (by omega) (by omega) (fun h hh => by
          by_cases hhg : h = g
          · subst hhg; exact hs
          · exact hS h (by omega))
        simp (disch := omega) only [li_0, li_1, li_2, li_3, li_4, li_5, li_6, li_7, li_8, li_11, li_15, li_16, li_24, li_32, li_112, li_144, li_152, li_160, li_192, li_240, li_255, li_256, li_272, li_280, li_288, li_1295, li_1296, nI_add, pk_mul, pk_sub, ni_m1, nI_clamp, ni_in, nI_leI, nI_ltI, nI_eq, forall_eq, na_at, na_upd, Nat.zero_add, Nat.add_zero, e1, e2]
        exact ⟨by omega, by omega, this⟩
      · have ei : (272 + tx_g kp L i g - 272) * 8 + (280 + tx_g kp R j g) - 280 = tx_g kp L i g * 8 + tx_g kp R j g := by omega
        have := hp (x_greater (tx_g kp L i g * 8 + tx_g kp R j g)) (fun o ho => ⟨fun z => ⟨g, by omega, hS, hs, z⟩, fun ⟨q, hq, h1, h2, h3⟩ => by
          have hqg : q = g := by
            rcases Nat.lt_trichotomy q g with h | h | h
            · exact absurd (hS q h) h2
            · exact h
            · exact absurd (h1 g h) hs
          subst hqg
          exact h3⟩)
        simp (disch := omega) only [li_0, li_1, li_2, li_3, li_4, li_5, li_6, li_7, li_8, li_11, li_15, li_16, li_24, li_32, li_112, li_144, li_152, li_160, li_192, li_240, li_255, li_256, li_272, li_280, li_288, li_1295, li_1296, nI_add, pk_mul, pk_sub, ni_m1, nI_clamp, ni_in, nI_leI, nI_ltI, nI_eq, forall_eq, na_at, na_upd, Nat.zero_add, Nat.add_zero, ei]
        exact ⟨by omega, this⟩
  unfold wpX_lexicographic
  simp (disch := omega) only [li_0, li_1, li_2, li_3, li_4, li_5, li_6, li_7, li_8, li_11, li_15, li_16, li_24, li_32, li_112, li_144, li_152, li_160, li_192, li_240, li_255, li_256, li_272, li_280, li_288, li_1295, li_1296, nI_add, pk_mul, pk_sub, ni_m1, nI_clamp, ni_in, nI_leI, nI_ltI, nI_eq, forall_eq, na_at, na_upd, Nat.zero_add, Nat.add_zero]
  exact ⟨_, key (kp (L i)) _ 0 (Nat.lt_succ_self _) (by omega) (fun h hh => by omega)⟩
theorem zx_ex158 {post : Int32 → Prop} {T en kp L R : Nat → Nat} {nL nR i j : Nat} {ords : Int32} {B : Nat → Prop} (C : ox_C T en kp L R nL nR) (hk : ∀ t, t < 8 → x_kept t = nI (kp t)) (hi : i < nL) (hj : j < nR)
    (hp : ∀ r, (∀ o, o < 32 → (bt r o = true ↔ bt ords o = true ∨ (B o ∧ ∀ g, g < kp (R j) → ox_G x_greater o i (tx_g kp R j g)))) → post r) :
    ∀ d N g roots, d < N → g + d = kp (R j) → (∀ o, o < 32 → (bt roots o = true ↔ B o ∧ ∀ h, h < g → ox_G x_greater o i (tx_g kp R j h))) →
      wX_exceeds_158 post (nI i) (nI (R j)) ords x_pairSlot x_subjectBase x_filteredLeft x_filteredRight x_scratch x_allOrders x_equalMark x_termCells x_phase x_ruleCount x_pairCount x_lineCount x_defined x_openSide x_openMissing x_subjectLength x_subjectMissing (na_F T) (na_F en) x_cut x_length x_precedences x_above x_greater x_relation x_arity x_shape x_kept x_bound x_links x_lines N (nI (280 + tx_g kp R j g)) roots (nI g) := by
  obtain ⟨c1, c2, c3, c4, c5, c6, c7, c8, c9, c10, c11⟩ := C
  obtain ⟨w1, w2, w3⟩ := tx_subk c7 (by omega) (Nat.zero_le j) (by omega)
  have t1 := c1 (280 + j)
  rw [c9] at t1
  have ek := hk _ t1
  have k3 := c2 (R j)
  intro d
  induction d with
  | zero =>
    intro N g roots hN hg hr
    obtain ⟨N, rfl⟩ : ∃ M, N = M + 1 := ⟨N - 1, by omega⟩
    have := hp (ords ||| roots) (fun o ho => by
      rw [b_or, Bool.or_eq_true, hr o ho]
      have eg : g = kp (R j) := by omega
      rw [eg])
    simp (disch := omega) only [wX_exceeds_158, li_0, li_1, li_2, li_3, li_4, li_5, li_6, li_7, li_8, li_11, li_15, li_16, li_24, li_32, li_112, li_144, li_152, li_160, li_192, li_240, li_255, li_256, li_272, li_280, li_288, li_1295, li_1296, nI_add, pk_mul, pk_sub, ni_m1, nI_clamp, ni_in, nI_leI, nI_ltI, nI_eq, forall_eq, na_at, na_upd, Nat.zero_add, Nat.add_zero, ek]
    exact ⟨by omega, br_t (by omega) this⟩
  | succ d ih =>
    intro N g roots hN hg hr
    obtain ⟨N, rfl⟩ : ∃ M, N = M + 1 := ⟨N - 1, by omega⟩
    obtain ⟨b1, b2, b3, b4, b5⟩ := tx_args (g := g) w1 (by omega) (by omega)
    have e2 := c11 (tx_g kp R j g) (by omega)
    have ei : i * 8 + (280 + tx_g kp R j g) - 280 = i * 8 + tx_g kp R j g := by omega
    have := ih N (g + 1) (roots &&& x_greater (i * 8 + tx_g kp R j g)) (by omega) (by omega) (fun o ho => by
      rw [b_and, Bool.and_eq_true, hr o ho]
      constructor
      · rintro ⟨⟨h1, h2⟩, h3⟩
        refine ⟨h1, fun h hh => ?_⟩
        by_cases e : h = g
        · subst e; exact h3
        · exact h2 h (by omega)
      · rintro ⟨h1, h2⟩
        exact ⟨⟨h1, fun h hh => h2 h (by omega)⟩, h2 g (by omega)⟩)
    simp (disch := omega) only [wX_exceeds_158, li_0, li_1, li_2, li_3, li_4, li_5, li_6, li_7, li_8, li_11, li_15, li_16, li_24, li_32, li_112, li_144, li_152, li_160, li_192, li_240, li_255, li_256, li_272, li_280, li_288, li_1295, li_1296, nI_add, pk_mul, pk_sub, ni_m1, nI_clamp, ni_in, nI_leI, nI_ltI, nI_eq, forall_eq, na_at, na_upd, Nat.zero_add, Nat.add_zero, ek, ei, e2]
    exact ⟨by omega, br_f (by omega) ⟨by omega, by omega, this⟩⟩
theorem zx_exceeds {post : Int32 → Prop} {T en kp L R : Nat → Nat} {lv : Nat → Nat → Nat} {nL nR i j : Nat} (C : ox_C T en kp L R nL nR) (hk : ∀ t, t < 8 → x_kept t = nI (kp t)) (hi : i < nL) (hj : j < nR)
    (hG : ∀ k o, 24 ≤ o → o < 32 → bt (x_greater k) o = false)
    (hab : ∀ a b, a < 4 → b < 4 → ∀ o, o < 32 → (bt (x_above (a * 4 + b)) o = true ↔ o < 24 ∧ lv o b < lv o a))
    (hp : ∀ r, (∀ o, o < 24 → (bt r o = true ↔ po_s kp L R (lv o) (ox_G x_greater o) i j)) → (∀ o, 24 ≤ o → o < 32 → bt r o = false) → post r) :
    wpX_exceeds post (x_pairSlot, x_subjectBase, x_filteredLeft, x_filteredRight, x_scratch, x_allOrders, x_equalMark, x_termCells, x_phase, x_ruleCount, x_pairCount, x_lineCount, x_defined, x_openSide, x_openMissing, x_subjectLength, x_subjectMissing, na_F T, na_F en, x_cut, x_length, x_precedences, x_above, x_greater, x_relation, x_arity, x_shape, x_kept, x_bound, x_links, x_lines) (nI i) (nI j) := by
  have C0 := C
  obtain ⟨c1, c2, c3, c4, c5, c6, c7, c8, c9, c10, c11⟩ := C
  obtain ⟨z1, z2, z3⟩ := tx_subk c6 (by omega) (Nat.zero_le i) (by omega)
  have t1 := c1 (272 + i)
  have t2 := c1 (280 + j)
  rw [c8] at t1
  rw [c9] at t2
  have ek := hk _ t1
  have k3 := c2 (L i)
  -- the joins behind the arguments of s
  have fin : ∀ (ords roots : Int32) (B : Nat → Prop), L i < 4 → R j < 4 → (∀ o, o < 32 → (bt ords o = true ↔ ∃ h, h < kp (L i) ∧ ox_G x_greater o (tx_g kp L i h) j)) → (∀ h, h < kp (L i) → ¬ po_S kp L R (tx_g kp L i h) j) →
      (∀ o, o < 32 → (bt roots o = true ↔ B o)) → (∀ o, 24 ≤ o → o < 32 → ¬ B o) → (∀ o, o < 24 → (B o ↔ (L i = R j → po_x kp L R (ox_G x_greater o) i j) ∧ (L i ≠ R j → lv o (R j) < lv o (L i)))) →
      ∃ n158, wX_exceeds_158 post (nI i) (nI (R j)) ords x_pairSlot x_subjectBase x_filteredLeft x_filteredRight x_scratch x_allOrders x_equalMark x_termCells x_phase x_ruleCount x_pairCount x_lineCount x_defined x_openSide x_openMissing x_subjectLength x_subjectMissing (na_F T) (na_F en) x_cut x_length x_precedences x_above x_greater x_relation x_arity x_shape x_kept x_bound x_links x_lines n158 (nI (280 + (j + 1))) roots (nI 0) := by
    intro ords roots B hs ht ho hS hr hB hB2
    refine ⟨_, zx_ex158 (B := B) C0 hk hi hj ?_ (kp (R j)) _ 0 roots (Nat.lt_succ_self _) (by omega) (fun o ho' => ⟨fun z => ⟨(hr o ho').mp z, fun h hh => by omega⟩, fun z => (hr o ho').mpr z.1⟩)⟩
    intro r hr2
    refine hp r (fun o ho' => ?_) (fun o h1 h2 => ?_)
    · rw [hr2 o (by omega), ho o (by omega), hB2 o ho']
      unfold po_s po_a po_b
      constructor
      · rintro (⟨h, hh, hg⟩ | ⟨⟨q1, q2⟩, q3⟩)
        · exact ⟨hs, Or.inl ⟨h, hh, Or.inr hg⟩⟩
        · exact ⟨hs, Or.inr ⟨ht, q3, q1, q2⟩⟩
      · rintro ⟨_, ⟨h, hh, hg⟩ | ⟨_, q3, q1, q2⟩⟩
        · exact Or.inl ⟨h, hh, hg.resolve_left (hS h hh)⟩
        · exact Or.inr ⟨⟨q1, q2⟩, q3⟩
    · cases hb : bt r o with
      | false => rfl
      | true =>
        rcases (hr2 o h2).mp hb with q | ⟨q, _⟩
        · obtain ⟨h, _, hg⟩ := (ho o h2).mp q
          unfold ox_G at hg
          rw [hG _ o h1 h2] at hg
          exact absurd hg (by decide)
        · exact absurd q (hB o h1 h2)
  have key : ∀ d N g ords, d < N → g + d = kp (L i) → (∀ o, o < 32 → (bt ords o = true ↔ ∃ h, h < g ∧ ox_G x_greater o (tx_g kp L i h) j)) → (∀ h, h < g → ¬ po_S kp L R (tx_g kp L i h) j) →
      wX_exceeds_41 post (nI i) (nI j) (nI (272 + i)) (nI (280 + j)) (nI (L i)) (nI (R j)) x_pairSlot x_subjectBase x_filteredLeft x_filteredRight x_scratch x_allOrders x_equalMark x_termCells x_phase x_ruleCount x_pairCount x_lineCount x_defined x_openSide x_openMissing x_subjectLength x_subjectMissing (na_F T) (na_F en) x_cut x_length x_precedences x_above x_greater x_relation x_arity x_shape x_kept x_bound x_links x_lines N ords (nI (272 + tx_g kp L i g)) (nI g) := by
    intro d
    induction d with
    | zero =>
      intro N g ords hN hg ho hS
      obtain ⟨N, rfl⟩ : ∃ M, N = M + 1 := ⟨N - 1, by omega⟩
      have eg : g = kp (L i) := by omega
      have ho' := ho
      rw [eg] at ho'
      have hS' := hS
      rw [eg] at hS'
      have only : ¬ (L i < 4 ∧ R j < 4) → post ords := by
        intro hn
        refine hp ords (fun o ho2 => ?_) (fun o h1 h2 => ?_)
        · rw [ho' o (by omega)]
          unfold po_s po_a po_b
          constructor
          · rintro ⟨h, hh, hg⟩
            refine ⟨?_, Or.inl ⟨h, hh, Or.inr hg⟩⟩
            by_cases h4 : L i < 4
            · exact h4
            · rw [c3 _ (by omega)] at hh
              omega
          · rintro ⟨h4, ⟨h, hh, hg⟩ | ⟨h5, _⟩⟩
            · exact ⟨h, hh, hg.resolve_left (hS' h hh)⟩
            · exact absurd ⟨h4, h5⟩ hn
        · cases hb : bt ords o with
          | false => rfl
          | true =>
            obtain ⟨h, _, hg⟩ := (ho o h2).mp hb
            unfold ox_G at hg
            rw [hG _ o h1 h2] at hg
            exact absurd hg (by decide)
      simp (disch := omega) only [wX_exceeds_41, li_0, li_1, li_2, li_3, li_4, li_5, li_6, li_7, li_8, li_11, li_15, li_16, li_24, li_32, li_112, li_144, li_152, li_160, li_192, li_240, li_255, li_256, li_272, li_280, li_288, li_1295, li_1296, nI_add, pk_mul, pk_sub, ni_m1, nI_clamp, ni_in, nI_leI, nI_ltI, nI_eq, forall_eq, na_at, na_upd, Nat.zero_add, Nat.add_zero, ek]
      refine ⟨by omega, br_t (by omega) (br_c (fun q => only (by omega)) (fun q => br_c (fun q2 => br_c (fun q3 => ?_) (fun q3 => ?_)) (fun q2 => only (by omega))))⟩
      · refine zx_lex C0 hk hi hj q3 (fun r hr => ?_)
        exact fin ords r (fun o => o < 32 ∧ po_x kp L R (ox_G x_greater o) i j) (by omega) (by omega) ho' hS' (fun o ho2 => (hr o ho2).trans ⟨fun z => ⟨ho2, z⟩, fun z => z.2⟩)
          (fun o h1 h2 ⟨_, q, _, _, _, hg⟩ => by
            unfold ox_G at hg
            rw [hG _ o h1 h2] at hg
            exact absurd hg (by decide))
          (fun o ho2 => ⟨fun z => ⟨fun _ => z.2, fun z2 => absurd q3 z2⟩, fun z => ⟨by omega, z.1 q3⟩⟩)
      · refine ⟨by omega, ?_⟩
        exact fin ords (x_above (L i * 4 + R j)) (fun o => o < 24 ∧ lv o (R j) < lv o (L i)) (by omega) (by omega) ho' hS' (fun o ho2 => hab _ _ (by omega) (by omega) o ho2) (fun o h1 h2 z => by omega)
          (fun o ho2 => ⟨fun z => ⟨fun z2 => absurd z2 q3, fun _ => z.2⟩, fun z => ⟨ho2, z.2 q3⟩⟩)
    | succ d ih =>
      intro N g ords hN hg ho hS
      obtain ⟨N, rfl⟩ : ∃ M, N = M + 1 := ⟨N - 1, by omega⟩
      obtain ⟨a1, a2, a3, a4, a5⟩ := tx_args (g := g) z1 (by omega) (by omega)
      have e1 := c10 (tx_g kp L i g) (by omega)
      have hs4 : L i < 4 := by
        by_cases h4 : L i < 4
        · exact h4
        · have := c3 _ (Nat.le_of_not_lt h4)
          omega
      simp (disch := omega) only [wX_exceeds_41, li_0, li_1, li_2, li_3, li_4, li_5, li_6, li_7, li_8, li_11, li_15, li_16, li_24, li_32, li_112, li_144, li_152, li_160, li_192, li_240, li_255, li_256, li_272, li_280, li_288, li_1295, li_1296, nI_add, pk_mul, pk_sub, ni_m1, nI_clamp, ni_in, nI_leI, nI_ltI, nI_eq, forall_eq, na_at, na_upd, Nat.zero_add, Nat.add_zero, ek]
      refine ⟨by omega, br_f (by omega) ?_⟩
      refine zx_sm C0 (by omega) hj (fun hs => ?_) (fun hs => br_t (by decide) ?_)
      · refine br_f (by decide) (hp _ (fun o ho2 => ?_) (fun o h1 h2 => ?_))
        · have := zb_all o (by omega)
          rw [this]
          refine ⟨fun _ => ⟨hs4, Or.inl ⟨g, by omega, Or.inl hs⟩⟩, fun _ => decide_eq_true ho2⟩
        · have := zb_all o h2
          rw [this]
          exact decide_eq_false (by omega)
      · have ei : (272 + tx_g kp L i g - 272) * 8 + j = tx_g kp L i g * 8 + j := by omega
        have := ih N (g + 1) (ords ||| x_greater (tx_g kp L i g * 8 + j)) (by omega) (by omega) (fun o ho2 => by
          rw [b_or, Bool.or_eq_true, ho o ho2]
          constructor
          · rintro (⟨h, hh, hg⟩ | hg)
            · exact ⟨h, by omega, hg⟩
            · exact ⟨g, by omega, hg⟩
          · rintro ⟨h, hh, hx⟩
            by_cases e : h = g
            · rw [e] at hx; exact Or.inr hx
            · exact Or.inl ⟨h, by omega, hx⟩) (fun h hh => by
          by_cases e : h = g
          · subst e; exact hs
          · exact hS h (by omega))
        simp (disch := omega) only [li_0, li_1, li_2, li_3, li_4, li_5, li_6, li_7, li_8, li_11, li_15, li_16, li_24, li_32, li_112, li_144, li_152, li_160, li_192, li_240, li_255, li_256, li_272, li_280, li_288, li_1295, li_1296, nI_add, pk_mul, pk_sub, ni_m1, nI_clamp, ni_in, nI_leI, nI_ltI, nI_eq, forall_eq, na_at, na_upd, Nat.zero_add, Nat.add_zero, ei, e1]
        exact ⟨by omega, by omega, this⟩
  unfold wpX_exceeds
  simp (disch := omega) only [li_0, li_1, li_2, li_3, li_4, li_5, li_6, li_7, li_8, li_11, li_15, li_16, li_24, li_32, li_112, li_144, li_152, li_160, li_192, li_240, li_255, li_256, li_272, li_280, li_288, li_1295, li_1296, nI_add, pk_mul, pk_sub, ni_m1, nI_clamp, ni_in, nI_leI, nI_ltI, nI_eq, forall_eq, na_at, na_upd, Nat.zero_add, Nat.add_zero, c8, c9]
  refine ⟨by omega, by omega, _, key (kp (L i)) _ 0 (nI 0) (Nat.lt_succ_self _) (by omega) (fun o ho => ⟨fun z => absurd z (by rw [zb_0]; decide), fun ⟨h, hh, _⟩ => by omega⟩) (fun h hh => by omega)⟩
end
end
section
section
variable {x_pairSlot x_subjectBase x_filteredLeft x_filteredRight x_scratch x_allOrders x_equalMark x_termCells x_phase x_ruleCount x_pairCount x_lineCount x_defined x_openSide x_openMissing x_subjectLength x_subjectMissing : Int32} {x_tok x_end x_cut x_length x_precedences x_above x_greater x_relation x_arity x_shape x_kept x_bound x_links x_lines : Nat → Int32}
theorem ni_nlt0 : nI 0 - nI 1 < nI 0 := by decide
theorem ni_sp {i : Nat} : nI (i + 1) - nI 1 = nI i := nI_pred i
theorem zx_rel75 {post : Int32 → SX → Prop} {J56 : Int32 → (Nat → Int32) → (Nat → Int32) → (Nat → Int32) → (Nat → Int32) → (Nat → Int32) → (Nat → Int32) → (Nat → Int32) → (Nat → Int32) → (Nat → Int32) → (Nat → Int32) → (Nat → Int32) → (Nat → Int32) → (Nat → Int32) → (Nat → Int32) → Prop} {T en kp L R : Nat → Nat} {lv : Nat → Nat → Nat} {nL nR i : Nat} (C : ox_C T en kp L R nL nR) (hk : ∀ t, t < 8 → x_kept t = nI (kp t)) (hi : i < nL)
    (hab : ∀ a b, a < 4 → b < 4 → ∀ o, o < 32 → (bt (x_above (a * 4 + b)) o = true ↔ o < 24 ∧ lv o b < lv o a))
    (hJ : ∀ gr, (∀ k o, 24 ≤ o → o < 32 → bt (gr k) o = false) → (∀ x y, i ≤ x → x < nL → y < nR → ∀ o, o < 24 → (ox_G gr o x y ↔ po_G kp L R (lv o) x y)) → J56 (nI i - nI 1) (na_F T) (na_F en) x_cut x_length x_precedences x_above gr x_relation x_arity x_shape x_kept x_bound x_links x_lines) :
    ∀ j N gr, j < N → j ≤ nR → (∀ k o, 24 ≤ o → o < 32 → bt (gr k) o = false) →
      (∀ x y, (i < x ∨ (x = i ∧ j ≤ y)) → x < nL → y < nR → ∀ o, o < 24 → (ox_G gr o x y ↔ po_G kp L R (lv o) x y)) →
      wX_relate_75 post J56 (nI i) x_pairSlot x_subjectBase x_filteredLeft x_filteredRight x_scratch x_allOrders x_equalMark x_termCells x_phase x_ruleCount x_pairCount x_lineCount x_defined x_openSide x_openMissing x_subjectLength x_subjectMissing N (nI j - nI 1) (na_F T) (na_F en) x_cut x_length x_precedences x_above gr x_relation x_arity x_shape x_kept x_bound x_links x_lines := by
  have C0 := C
  obtain ⟨c1, c2, c3, c4, c5, c6, c7, c8, c9, c10, c11⟩ := C
  intro j
  induction j with
  | zero =>
    intro N gr hN hj hh hg
    obtain ⟨N, rfl⟩ : ∃ M, N = M + 1 := ⟨N - 1, by omega⟩
    refine br_t ni_nlt0 ?_
    refine nm_r (e' := nI i - nI 1) (ni_pm i) ?_
    exact hJ gr hh (fun x y h1 h2 h3 => hg x y (by omega) h2 h3)
  | succ j ih =>
    intro N gr hN hj hh hg
    obtain ⟨N, rfl⟩ : ∃ M, N = M + 1 := ⟨N - 1, by omega⟩
    rw [ni_sp]
    refine br_f (nI_pos (by omega)) ?_
    refine zx_exceeds (lv := lv) C0 hk hi (show j < nR by omega) hh hab (fun r hr1 hr2 => ?_)
    have key := ih N (upd gr (i * 8 + j) r) (by omega) (by omega) (fun k o h1 h2 => by
      by_cases e : k = i * 8 + j
      · rw [e, pk_us]; exact hr2 o h1 h2
      · rw [pk_un e]; exact hh k o h1 h2) (fun x y h1 h2 h3 o ho => by
      by_cases e : x = i ∧ y = j
      · obtain ⟨e1, e2⟩ := e
        subst e1
        subst e2
        unfold ox_G
        rw [pk_us, hr1 o ho]
        exact po_use c6 c7 c4 c5 hi (by omega) (fun x' y' h4 h5 h6 h7 h8 => hg x' y' (by omega) h6 h7 o ho)
      · unfold ox_G
        rw [pk_un (by omega)]
        exact hg x y (by omega) h2 h3 o ho)
    simp (disch := omega) only [li_0, li_1, li_2, li_3, li_4, li_5, li_6, li_7, li_8, li_11, li_15, li_16, li_24, li_32, li_112, li_144, li_152, li_160, li_192, li_240, li_255, li_256, li_272, li_280, li_288, li_1295, li_1296, nI_add, pk_mul, pk_sub, ni_m1, nI_clamp, ni_in, nI_leI, nI_ltI, nI_eq, forall_eq, na_at, na_upd, Nat.zero_add, Nat.add_zero, ni_pm]
    exact ⟨by omega, key⟩
theorem zx_rel56 {post : Int32 → SX → Prop} {T en kp L R : Nat → Nat} {lv : Nat → Nat → Nat} {nL nR : Nat} (C : ox_C T en kp L R nL nR) (hk : ∀ t, t < 8 → x_kept t = nI (kp t))
    (hab : ∀ a b, a < 4 → b < 4 → ∀ o, o < 32 → (bt (x_above (a * 4 + b)) o = true ↔ o < 24 ∧ lv o b < lv o a))
    (hp : ∀ gr, (∀ k o, 24 ≤ o → o < 32 → bt (gr k) o = false) → (∀ o, o < 24 → (bt (gr 0) o = true ↔ po_G kp L R (lv o) 0 0)) → post (gr 0) (x_pairSlot, x_subjectBase, x_filteredLeft, x_filteredRight, x_scratch, x_allOrders, x_equalMark, x_termCells, x_phase, x_ruleCount, x_pairCount, x_lineCount, x_defined, x_openSide, x_openMissing, x_subjectLength, x_subjectMissing, na_F T, na_F en, x_cut, x_length, x_precedences, x_above, gr, x_relation, x_arity, x_shape, x_kept, x_bound, x_links, x_lines)) :
    ∀ i N gr, i < N → i ≤ nL → (∀ k o, 24 ≤ o → o < 32 → bt (gr k) o = false) →
      (∀ x y, i ≤ x → x < nL → y < nR → ∀ o, o < 24 → (ox_G gr o x y ↔ po_G kp L R (lv o) x y)) →
      wX_relate_56 post x_pairSlot x_subjectBase x_filteredLeft x_filteredRight x_scratch x_allOrders x_equalMark x_termCells x_phase x_ruleCount x_pairCount x_lineCount x_defined x_openSide x_openMissing x_subjectLength x_subjectMissing N (nI i - nI 1) (na_F T) (na_F en) x_cut x_length x_precedences x_above gr x_relation x_arity x_shape x_kept x_bound x_links x_lines := by
  have C0 := C
  obtain ⟨c1, c2, c3, c4, c5, c6, c7, c8, c9, c10, c11⟩ := C
  have pL : 0 < nL := by have := tx_T_pos c6; rw [tx_len] at this; exact this
  have pR : 0 < nR := by have := tx_T_pos c7; rw [tx_len] at this; exact this
  have zR : tx_z kp R 0 = nR := tx_z_of c7 (by omega)
  have e2 := c11 0 pR
  rw [zR, Nat.add_zero, Nat.zero_add] at e2
  intro i
  induction i with
  | zero =>
    intro N gr hN hi hh hg
    obtain ⟨N, rfl⟩ : ∃ M, N = M + 1 := ⟨N - 1, by omega⟩
    refine br_t ni_nlt0 ?_
    exact hp gr hh (fun o ho => hg 0 0 (by omega) pL pR o ho)
  | succ i ih =>
    intro N gr hN hi hh hg
    obtain ⟨N, rfl⟩ : ∃ M, N = M + 1 := ⟨N - 1, by omega⟩
    rw [ni_sp]
    refine br_f (nI_pos (by omega)) ?_
    refine nm_r (e' := nI nR - nI 1) ?_ ⟨nR + 1, ?_⟩
    · show nI (en 280) - nI 280 - nI 1 = _
      rw [e2, pk_sub (by omega), show 280 + nR - 280 = nR by omega]
    · exact zx_rel75 (lv := lv) C0 hk (show i < nL by omega) hab (fun gr' h1 h2 => ih N gr' (by omega) (by omega) h1 h2) nR _ gr (by omega) (by omega) hh (fun x y h1 h2 h3 => hg x y (by omega) h2 h3)
/-- what a relation's value says -/
def ox_V (kp : Nat → Nat) (lv : Nat → Nat → Nat) (l r : List Nat) (v : Int32) : Prop :=
  (l = r → v = 16777216) ∧ (l ≠ r → (∀ o, 24 ≤ o → o < 32 → bt v o = false) ∧ ∀ o, o < 24 → (bt v o = true ↔ po_V kp (lv o) l r))
/-- slot s holds the texts l and r -/
def ox_S (ar T en : Nat → Nat) (s : Nat) (l r : List Nat) : Prop :=
  tx_t T (s * 16) l.length = l ∧ tx_t T (s * 16 + 8) r.length = r ∧ l.length ≤ 8 ∧ r.length ≤ 8 ∧ tx_T ar l ∧ tx_T ar r ∧
  (∀ k, s * 16 ≤ k → k < s * 16 + l.length → en k = k + tx_z ar T k) ∧ (∀ k, s * 16 + 8 ≤ k → k < s * 16 + 8 + r.length → en k = k + tx_z ar T k)
theorem ox_Sk {ar T en T' en' : Nat → Nat} {s : Nat} {l r : List Nat} (h : ox_S ar T en s l r) (h1 : ∀ k, s * 16 ≤ k → k < s * 16 + 16 → T' k = T k) (h2 : ∀ k, s * 16 ≤ k → k < s * 16 + 16 → en' k = en k) : ox_S ar T' en' s l r := by
  obtain ⟨a1, a2, a3, a4, a5, a6, a7, a8⟩ := h
  have e1 : tx_t T' (s * 16) l.length = tx_t T (s * 16) l.length := tx_congr fun i hi => h1 _ (by omega) (by omega)
  have e2 : tx_t T' (s * 16 + 8) r.length = tx_t T (s * 16 + 8) r.length := tx_congr fun i hi => h1 _ (by omega) (by omega)
  refine ⟨e1.trans a1, e2.trans a2, a3, a4, a5, a6, fun k hk1 hk2 => ?_, fun k hk1 hk2 => ?_⟩
  · rw [h2 k (by omega) (by omega), a7 k hk1 hk2]
    have := (tx_zeq (a := ar) (T := T') (T' := T) (x := s * 16) (y := s * 16) (n := l.length) (j := k - s * 16) (by rw [e1, a1]; exact a5) (by omega) e1 (by omega)).2
    rw [show s * 16 + (k - s * 16) = k by omega] at this
    rw [this]
  · rw [h2 k (by omega) (by omega), a8 k hk1 hk2]
    have := (tx_zeq (a := ar) (T := T') (T' := T) (x := s * 16 + 8) (y := s * 16 + 8) (n := r.length) (j := k - (s * 16 + 8)) (by rw [e2, a2]; exact a6) (by omega) e2 (by omega)).2
    rw [show s * 16 + 8 + (k - (s * 16 + 8)) = k by omega] at this
    rw [this]
theorem zx_relate {post : Int32 → SX → Prop} {T en ct ar sh kp : Nat → Nat} {lv : Nat → Nat → Nat} {f s : Nat} {l r : List Nat} (hA : fd_A ar) (hf : fd_L ar f)
    (hT : ∀ k, T k < 8) (hq : ∀ t, t < 8 → x_arity t = nI (ar t)) (hsh : ∀ t, t < 8 → sh t = fk_x (ar t) (fd_g f t)) (hkp : ∀ t, t < 8 → kp t = fd_kp ar f t)
    (hab : ∀ a b, a < 4 → b < 4 → ∀ o, o < 32 → (bt (x_above (a * 4 + b)) o = true ↔ o < 24 ∧ lv o b < lv o a))
    (hG : ∀ k o, 24 ≤ o → o < 32 → bt (x_greater k) o = false) (hct : ∀ k, ct k < 2) (hcb : ∀ k, k < 30 → ct (k * 8) = 0) (hs : s < 15) (hS : ox_S ar T en s l r)
    (hp : ∀ T' en' ct' gr v, (∀ k, T' k < 8) → (∀ k, k < 272 ∨ 288 ≤ k → T' k = T k) → (∀ k, k < 272 ∨ 288 ≤ k → en' k = en k) → (∀ k, ct' k < 2) → (∀ k, k < 30 → ct' (k * 8) = 0) →
      (∀ k o, 24 ≤ o → o < 32 → bt (gr k) o = false) → ox_V (fd_kp ar f) lv (fd_f ar f l) (fd_f ar f r) v → post v (x_pairSlot, x_subjectBase, x_filteredLeft, x_filteredRight, x_scratch, x_allOrders, x_equalMark, x_termCells, x_phase, x_ruleCount, x_pairCount, x_lineCount, x_defined, x_openSide, x_openMissing, x_subjectLength, x_subjectMissing, na_F T', na_F en', na_F ct', x_length, x_precedences, x_above, gr, x_relation, x_arity, na_F sh, na_F kp, x_bound, x_links, x_lines)) :
    wpX_relate post (x_pairSlot, x_subjectBase, x_filteredLeft, x_filteredRight, x_scratch, x_allOrders, x_equalMark, x_termCells, x_phase, x_ruleCount, x_pairCount, x_lineCount, x_defined, x_openSide, x_openMissing, x_subjectLength, x_subjectMissing, na_F T, na_F en, na_F ct, x_length, x_precedences, x_above, x_greater, x_relation, x_arity, na_F sh, na_F kp, x_bound, x_links, x_lines) (nI s) := by
  obtain ⟨a1, a2, a3, a4, a5, a6, a7, a8⟩ := hS
  have q1 : tx_T ar (tx_t T (s * 16) l.length) := by rw [a1]; exact a5
  unfold wpX_relate
  simp (disch := omega) only [li_0, li_1, li_2, li_3, li_4, li_5, li_6, li_7, li_8, li_11, li_15, li_16, li_24, li_32, li_112, li_144, li_152, li_160, li_192, li_240, li_255, li_256, li_272, li_280, li_288, li_1295, li_1296, nI_add, pk_mul, pk_sub, ni_m1, nI_clamp, ni_in, nI_leI, nI_ltI, nI_eq, forall_eq, na_at, na_upd, Nat.zero_add, Nat.add_zero]
  refine zx_filterText (n0 := l.length) hA hf hq hsh hkp hT a3 (by omega) (by omega) (by omega) a7 q1 hct (by have := hcb (s * 2) (by omega); rw [show s * 2 * 8 = s * 16 by omega] at this; exact this) ?_
  intro T1 en1 ct1 b1 b2 b3 b4 b5 b6 b7
  rw [a1] at b3 b4
  have e1 : tx_t T1 (s * 16 + 8) r.length = tx_t T (s * 16 + 8) r.length := tx_congr fun i hi => b2 _ (by omega)
  have q2 : tx_T ar (tx_t T1 (s * 16 + 8) r.length) := by rw [e1, a2]; exact a6
  refine zx_filterText (n0 := r.length) hA hf hq hsh hkp b1 a4 (by omega) (by omega) (by omega) ?_ q2 b6 ?_ ?_
  · intro k hk1 hk2
    rw [b5 k (by omega), a8 k hk1 hk2]
    have := (tx_zeq (a := ar) (T := T1) (T' := T) (x := s * 16 + 8) (y := s * 16 + 8) (n := r.length) (j := k - (s * 16 + 8)) q2 (by omega) e1 (by omega)).2
    rw [show s * 16 + 8 + (k - (s * 16 + 8)) = k by omega] at this
    rw [this]
  · have := hcb (s * 2 + 1) (by omega)
    rw [show (s * 2 + 1) * 8 = s * 16 + 8 by omega] at this
    rw [b7 _ (by omega)]
    exact this
  intro T2 en2 ct2 d1 d2 d3 d4 d5 d6 d7
  rw [e1, a2] at d3 d4
  have lL := fd_len ar f l
  have lR := fd_len ar f r
  -- the two texts
  have eL : tx_t T2 272 (fd_f ar f l).length = fd_f ar f l := by
    rw [← b3]
    rw [tx_len]
    exact tx_congr fun i hi => d2 _ (by omega)
  have tL : tx_t (fun i => T2 (272 + i)) 0 (fd_f ar f l).length = fd_f ar f l := by rw [tx_shift T2 272]; exact eL
  have tR : tx_t (fun i => T2 (280 + i)) 0 (fd_f ar f r).length = fd_f ar f r := by rw [tx_shift T2 280]; exact d3
  have kL : tx_T (fd_kp ar f) (fd_f ar f l) := fd_T hA hf a5
  have kR : tx_T (fd_kp ar f) (fd_f ar f r) := fd_T hA hf a6
  have C : ox_C T2 en2 (fd_kp ar f) (fun i => T2 (272 + i)) (fun i => T2 (280 + i)) (fd_f ar f l).length (fd_f ar f r).length := by
    refine ⟨d1, fd_kp3 hA hf, fun t ht => fd_kpv hA f ht, by omega, by omega, by rw [tL]; exact kL, by rw [tR]; exact kR, fun _ => rfl, fun _ => rfl, fun i hi => ?_, fun i hi => ?_⟩
    · rw [d5 _ (by omega), b4 _ (by omega) (by omega), tx_zshift]
      have e3 : tx_t T1 272 (fd_f ar f l).length = tx_t T2 272 (fd_f ar f l).length := by rw [b3, eL]
      have := (tx_zeq (a := fd_kp ar f) (T := T1) (T' := T2) (x := 272) (y := 272) (n := (fd_f ar f l).length) (j := i) (by rw [b3]; exact kL) (by omega) e3 hi).2
      rw [this]
      omega
    · rw [d4 _ (by omega) (by omega), tx_zshift]
      omega
  have hk2 : ∀ t, t < 8 → na_F kp t = nI (fd_kp ar f t) := fun t ht => by rw [na_at, hkp t ht]
  have pL : 0 < (fd_f ar f l).length := tx_T_pos kL
  have pR : 0 < (fd_f ar f r).length := tx_T_pos kR
  have ct2b : ∀ k, k < 30 → ct2 (k * 8) = 0 := by
    intro k hk
    rw [d7 _ (by omega), b7 _ (by omega)]
    exact hcb k hk
  have S0 := po_S0 (kp := fd_kp ar f) (by rw [tL]; exact kL) (by rw [tR]; exact kR) (show (fd_f ar f l).length ≤ 8 by omega) (show (fd_f ar f r).length ≤ 8 by omega)
  rw [tL, tR] at S0
  refine zx_sm (u := 0) (v := 0) C pL pR (fun h => br_f (by decide) ?_) (fun h => br_t (by decide) ?_)
  · have e := S0.mp h
    exact hp T2 en2 ct2 x_greater 16777216 d1 (fun k hk => by rw [d2 k (by omega), b2 k (by omega)]) (fun k hk => by rw [d5 k (by omega), b5 k (by omega)]) d6 ct2b hG ⟨fun _ => rfl, fun z => absurd e z⟩
  · have ne : fd_f ar f l ≠ fd_f ar f r := fun z => h (S0.mpr z)
    have e5 := C.2.2.2.2.2.2.2.2.2.1 0 pL
    have zL : tx_z (fd_kp ar f) (fun i => T2 (272 + i)) 0 = (fd_f ar f l).length := tx_z_of (by rw [tL]; exact kL) (by omega)
    rw [zL, Nat.add_zero, Nat.zero_add] at e5
    have ee : nI (en2 272) - nI 272 - nI 1 = nI (fd_f ar f l).length - nI 1 := by
      rw [e5, pk_sub (by omega), show 272 + (fd_f ar f l).length - 272 = (fd_f ar f l).length by omega]
    refine ⟨(fd_f ar f l).length + 1, ?_⟩
    rw [show na_F en2 272 - nI 272 - nI 1 = nI (fd_f ar f l).length - nI 1 from ee]
    refine zx_rel56 (lv := lv) C hk2 hab ?_ (fd_f ar f l).length ((fd_f ar f l).length + 1) x_greater (by omega) (by omega) hG (fun x y h1 h2 => by omega)
    · skip
      intro gr hh hg
      refine hp T2 en2 ct2 gr (gr 0) d1 (fun k hk => by rw [d2 k (by omega), b2 k (by omega)]) (fun k hk => by rw [d5 k (by omega), b5 k (by omega)]) d6 ct2b hh ⟨fun z => absurd z ne, fun _ => ⟨hh 0, fun o ho => ?_⟩⟩
      rw [hg o ho]
      exact po_ext (by rw [tL]; exact kL) (by rw [tR]; exact kR) (by omega) (by omega) (by rw [tL]; exact (tx_ofl _).symm) (by rw [tR]; exact (tx_ofl _).symm) 40 0 0 pL pR
end
end
section
section
variable {y_cap y_phase y_rules y_pairs y_lines y_size : Int32} {y_m y_ar y_len y_pairAt y_rec y_digit y_level y_bind y_hide y_gt y_fit y_path : Nat → Int32}
def oy_C (T kp L R : Nat → Nat) (nL nR : Nat) : Prop :=
  (∀ k, T k < 8) ∧ (∀ t, kp t < 3) ∧ (∀ t, 4 ≤ t → kp t = 0) ∧ nL ≤ 8 ∧ nR ≤ 8 ∧ tx_T kp (tx_t L 0 nL) ∧ tx_T kp (tx_t R 0 nR) ∧
  (∀ i, T (144 + i) = L i) ∧ (∀ i, T (152 + i) = R i)
def oy_G (gt : Nat → Nat) (x y : Nat) : Prop := gt (x * 8 + y) = 1
theorem zy_sm {post : Int32 → Prop} {T kp L R : Nat → Nat} {nL nR u v : Nat} (C : oy_C T kp L R nL nR) (hq : ∀ t, t < 8 → y_ar (8 + t) = nI (kp t)) (hu : u < nL) (hv : v < nR) (h1 : po_S kp L R u v → post 1) (h0 : ¬ po_S kp L R u v → post 0) :
    wpY_same post (y_cap, y_phase, y_rules, y_pairs, y_lines, y_size, na_F T, y_ar, y_len, y_pairAt, y_rec, y_digit, y_level, y_bind, y_hide, y_gt, y_fit, y_path) (nI (144 + u)) (nI (152 + v)) 8 := by
  obtain ⟨c1, c2, c3, c4, c5, c6, c7, c8, c9⟩ := C
  obtain ⟨z1, z2, z3⟩ := tx_subk c6 (by omega) (Nat.zero_le u) (by omega)
  have e1 : ∀ n, tx_t T (144 + u) n = tx_t L u n := fun n => tx_congr fun i _ => by rw [Nat.add_assoc, c8]
  have e2 : ∀ n, tx_t T (152 + v) n = tx_t R v n := fun n => tx_congr fun i _ => by rw [Nat.add_assoc, c9]
  refine zy_same8 (q := kp) (n := tx_z kp L u) c1 hq c2 (by omega) (by omega) (by rw [e1]; exact z1) ?_ ?_
  · intro h
    rw [e1, e2] at h
    exact h1 h
  · intro h
    rw [e1, e2] at h
    exact h0 h
theorem zy_eL {post : Int32 → Prop} {T kp L R : Nat → Nat} {nL nR u : Nat} (C : oy_C T kp L R nL nR) (hq : ∀ t, t < 8 → y_ar (8 + t) = nI (kp t)) (hu : u < nL) (hp : post (nI (144 + (u + tx_z kp L u)))) :
    wpY_end post (y_cap, y_phase, y_rules, y_pairs, y_lines, y_size, na_F T, y_ar, y_len, y_pairAt, y_rec, y_digit, y_level, y_bind, y_hide, y_gt, y_fit, y_path) (nI (144 + u)) 8 := by
  obtain ⟨c1, c2, c3, c4, c5, c6, c7, c8, c9⟩ := C
  obtain ⟨z1, z2, z3⟩ := tx_subk c6 (by omega) (Nat.zero_le u) (by omega)
  have e1 : ∀ n, tx_t T (144 + u) n = tx_t L u n := fun n => tx_congr fun i _ => by rw [Nat.add_assoc, c8]
  refine zy_end8 (q := kp) (n := tx_z kp L u) c1 hq c2 (by omega) (by rw [e1]; exact z1) ?_
  rw [Nat.add_assoc]
  exact hp
theorem zy_eR {post : Int32 → Prop} {T kp L R : Nat → Nat} {nL nR u : Nat} (C : oy_C T kp L R nL nR) (hq : ∀ t, t < 8 → y_ar (8 + t) = nI (kp t)) (hu : u < nR) (hp : post (nI (152 + (u + tx_z kp R u)))) :
    wpY_end post (y_cap, y_phase, y_rules, y_pairs, y_lines, y_size, na_F T, y_ar, y_len, y_pairAt, y_rec, y_digit, y_level, y_bind, y_hide, y_gt, y_fit, y_path) (nI (152 + u)) 8 := by
  obtain ⟨c1, c2, c3, c4, c5, c6, c7, c8, c9⟩ := C
  obtain ⟨z1, z2, z3⟩ := tx_subk c7 (by omega) (Nat.zero_le u) (by omega)
  have e1 : ∀ n, tx_t T (152 + u) n = tx_t R u n := fun n => tx_congr fun i _ => by rw [Nat.add_assoc, c9]
  refine zy_end8 (q := kp) (n := tx_z kp R u) c1 hq c2 (by omega) (by rw [e1]; exact z1) ?_
  rw [Nat.add_assoc]
  exact hp
theorem ni_nb (v : Nat) (h : v < 2) : narrow .boolean (.int (nI v)) = .int (nI v) := by
  have : v = 0 ∨ v = 1 := by omega
  rcases this with e | e <;> subst e <;> rfl
theorem zy_greater {post : Int32 → Prop} {T kp L R lv gt : Nat → Nat} {nL nR i j : Nat} (C : oy_C T kp L R nL nR) (hq : ∀ t, t < 8 → y_ar (8 + t) = nI (kp t)) (hlv : ∀ t, t < 4 → y_level t = nI (lv t)) (hl4 : ∀ t, lv t < 4)
    (hi : i < nL) (hj : j < nR) (hgt : ∀ k, gt k < 2) (h1 : po_s kp L R lv (oy_G gt) i j → post 1) (h0 : ¬ po_s kp L R lv (oy_G gt) i j → post 0) :
    wpY_greater post (y_cap, y_phase, y_rules, y_pairs, y_lines, y_size, na_F T, y_ar, y_len, y_pairAt, y_rec, y_digit, y_level, y_bind, y_hide, na_F gt, y_fit, y_path) (nI (144 + i)) (nI (152 + j)) := by
  have C0 := C
  obtain ⟨c1, c2, c3, c4, c5, c6, c7, c8, c9⟩ := C
  obtain ⟨z1, z2, z3⟩ := tx_subk c6 (by omega) (Nat.zero_le i) (by omega)
  obtain ⟨w1, w2, w3⟩ := tx_subk c7 (by omega) (Nat.zero_le j) (by omega)
  have t1 : L i < 8 := by rw [← c8]; exact c1 _
  have t2 : R j < 8 := by rw [← c9]; exact c1 _
  have ek := hq _ t1
  have ek2 := hq _ t2
  have k3 := c2 (L i)
  have k4 := c2 (R j)
  -- the first differing arguments
  have k210 : L i < 4 → R j < 4 → L i = R j → (∀ h, h < kp (L i) → ¬ (po_S kp L R (tx_g kp L i h) j ∨ oy_G gt (tx_g kp L i h) j)) → (∀ g, g < kp (R j) → oy_G gt i (tx_g kp R j g)) →
      ∀ d N g, d < N → g + d = kp (L i) → (∀ h, h < g → po_S kp L R (tx_g kp L i h) (tx_g kp R j h)) →
      wY_greater_210 post (nI (L i)) y_cap y_phase y_rules y_pairs y_lines y_size (na_F T) y_ar y_len y_pairAt y_rec y_digit y_level y_bind y_hide (na_F gt) y_fit y_path N (nI (144 + tx_g kp L i g)) (nI (152 + tx_g kp R j g)) (nI g) := by
    intro hs ht e hna hall d
    have eR : kp (R j) = kp (L i) := by rw [e]
    induction d with
    | zero =>
      intro N g hN hg hS
      obtain ⟨N, rfl⟩ : ∃ M, N = M + 1 := ⟨N - 1, by omega⟩
      have := h0 (fun ⟨_, h⟩ => by
        rcases h with ⟨h, hh, hc⟩ | ⟨_, _, hx, _⟩
        · exact hna h hh hc
        · obtain ⟨q, hq, _, h2, _⟩ := hx e
          exact h2 (hS q (by omega)))
      simp (disch := omega) only [wY_greater_210, li_0, li_1, li_2, li_3, li_4, li_5, li_6, li_7, li_8, li_11, li_15, li_16, li_24, li_32, li_112, li_144, li_152, li_160, li_192, li_240, li_255, li_256, li_272, li_280, li_288, li_1295, li_1296, nI_add, pk_mul, pk_sub, ni_m1, nI_clamp, ni_in, nI_leI, nI_ltI, nI_eq, forall_eq, na_at, na_upd, Nat.zero_add, Nat.add_zero, ek]
      exact ⟨by omega, br_t (by omega) this⟩
    | succ d ih =>
      intro N g hN hg hS
      obtain ⟨N, rfl⟩ : ∃ M, N = M + 1 := ⟨N - 1, by omega⟩
      obtain ⟨a1, a2, a3, a4, a5⟩ := tx_args (g := g) z1 (by omega) (by omega)
      obtain ⟨b1, b2, b3, b4, b5⟩ := tx_args (g := g) w1 (by omega) (by omega)
      simp (disch := omega) only [wY_greater_210, li_0, li_1, li_2, li_3, li_4, li_5, li_6, li_7, li_8, li_11, li_15, li_16, li_24, li_32, li_112, li_144, li_152, li_160, li_192, li_240, li_255, li_256, li_272, li_280, li_288, li_1295, li_1296, nI_add, pk_mul, pk_sub, ni_m1, nI_clamp, ni_in, nI_leI, nI_ltI, nI_eq, forall_eq, na_at, na_upd, Nat.zero_add, Nat.add_zero, ek]
      refine ⟨by omega, br_f (by omega) ?_⟩
      refine zy_sm C0 hq (by omega) (by omega) (fun hs => br_f (by decide) ?_) (fun hs => br_t (by decide) ?_)
      · refine zy_eL C0 hq (by omega) (zy_eR C0 hq (by omega) ?_)
        exact ih N (g + 1) (by omega) (by omega) (fun h hh => by
          by_cases hhg : h = g
          · subst hhg; exact hs
          · exact hS h (by omega))
      · have ei : (144 + tx_g kp L i g - 144) * 8 + (152 + tx_g kp R j g) - 152 = tx_g kp L i g * 8 + tx_g kp R j g := by omega
        have g2 := hgt (tx_g kp L i g * 8 + tx_g kp R j g)
        have hpost : post (nI (gt (tx_g kp L i g * 8 + tx_g kp R j g))) := by
          have : gt (tx_g kp L i g * 8 + tx_g kp R j g) = 0 ∨ gt (tx_g kp L i g * 8 + tx_g kp R j g) = 1 := by omega
          rcases this with e0 | e1
          · rw [e0]
            refine h0 (fun ⟨_, h⟩ => ?_)
            rcases h with ⟨h, hh, hc⟩ | ⟨_, _, hx, _⟩
            · exact hna h hh hc
            · obtain ⟨q, hq, hq1, hq2, hq3⟩ := hx e
              have hqg : q = g := by
                rcases Nat.lt_trichotomy q g with h | h | h
                · exact absurd (hS q h) hq2
                · exact h
                · exact absurd (hq1 g h) hs
              subst hqg
              unfold oy_G at hq3
              omega
          · rw [e1]
            exact h1 ⟨by omega, Or.inr ⟨by omega, hall, fun _ => ⟨g, by omega, hS, hs, e1⟩, fun z => absurd e z⟩⟩
        simp (disch := omega) only [li_0, li_1, li_2, li_3, li_4, li_5, li_6, li_7, li_8, li_11, li_15, li_16, li_24, li_32, li_112, li_144, li_152, li_160, li_192, li_240, li_255, li_256, li_272, li_280, li_288, li_1295, li_1296, nI_add, pk_mul, pk_sub, ni_m1, nI_clamp, ni_in, nI_leI, nI_ltI, nI_eq, forall_eq, na_at, na_upd, Nat.zero_add, Nat.add_zero, ei]
        exact ⟨by omega, ni_nb _ g2, hpost⟩
  -- every argument of t
  have k113 : L i < 4 → R j < 4 → (∀ h, h < kp (L i) → ¬ (po_S kp L R (tx_g kp L i h) j ∨ oy_G gt (tx_g kp L i h) j)) →
      ∀ d N g, d < N → g + d = kp (R j) → (∀ h, h < g → oy_G gt i (tx_g kp R j h)) →
      wY_greater_113 post (nI (144 + i)) (nI (152 + j)) (nI (L i)) (nI (R j)) y_cap y_phase y_rules y_pairs y_lines y_size (na_F T) y_ar y_len y_pairAt y_rec y_digit y_level y_bind y_hide (na_F gt) y_fit y_path N (nI (152 + tx_g kp R j g)) (nI g) := by
    intro hs ht hna d
    induction d with
    | zero =>
      intro N g hN hg hall
      obtain ⟨N, rfl⟩ : ∃ M, N = M + 1 := ⟨N - 1, by omega⟩
      have eg : g = kp (R j) := by omega
      subst eg
      have l1 := hlv (L i) hs
      have l2 := hlv (R j) ht
      have l3 := hl4 (L i)
      have l4 := hl4 (R j)
      simp (disch := omega) only [wY_greater_113, li_0, li_1, li_2, li_3, li_4, li_5, li_6, li_7, li_8, li_11, li_15, li_16, li_24, li_32, li_112, li_144, li_152, li_160, li_192, li_240, li_255, li_256, li_272, li_280, li_288, li_1295, li_1296, nI_add, pk_mul, pk_sub, ni_m1, nI_clamp, ni_in, nI_leI, nI_ltI, nI_eq, forall_eq, na_at, na_upd, Nat.zero_add, Nat.add_zero, ek2, l1, l2]
      refine ⟨by omega, br_t (by omega) (br_c (fun e => ?_) (fun e => ⟨by omega, by omega, br_c (fun q => ?_) (fun q => ?_)⟩))⟩
      · exact ⟨_, k210 hs ht e hna hall (kp (L i)) _ 0 (Nat.lt_succ_self _) (by omega) (fun h hh => by omega)⟩
      · refine h0 (fun ⟨_, h⟩ => ?_)
        rcases h with ⟨h, hh, hc⟩ | ⟨_, _, _, hx⟩
        · exact hna h hh hc
        · have := hx e
          omega
      · exact h1 ⟨hs, Or.inr ⟨ht, hall, fun z => absurd z e, fun _ => by omega⟩⟩
    | succ d ih =>
      intro N g hN hg hall
      obtain ⟨N, rfl⟩ : ∃ M, N = M + 1 := ⟨N - 1, by omega⟩
      obtain ⟨b1, b2, b3, b4, b5⟩ := tx_args (g := g) w1 (by omega) (by omega)
      have ei : (144 + i - 144) * 8 + (152 + tx_g kp R j g) - 152 = i * 8 + tx_g kp R j g := by omega
      have g2 := hgt (i * 8 + tx_g kp R j g)
      simp (disch := omega) only [wY_greater_113, li_0, li_1, li_2, li_3, li_4, li_5, li_6, li_7, li_8, li_11, li_15, li_16, li_24, li_32, li_112, li_144, li_152, li_160, li_192, li_240, li_255, li_256, li_272, li_280, li_288, li_1295, li_1296, nI_add, pk_mul, pk_sub, ni_m1, nI_clamp, ni_in, nI_leI, nI_ltI, nI_eq, forall_eq, na_at, na_upd, Nat.zero_add, Nat.add_zero, ek2, ei]
      refine ⟨by omega, br_f (by omega) ⟨by omega, br_c (fun q => ?_) (fun q => ?_)⟩⟩
      · refine h0 (fun ⟨_, h⟩ => ?_)
        rcases h with ⟨h, hh, hc⟩ | ⟨_, hx, _⟩
        · exact hna h hh hc
        · have := hx g (by omega)
          unfold oy_G at this
          omega
      · refine zy_eR C0 hq (by omega) ?_
        exact ih N (g + 1) (by omega) (by omega) (fun h hh => by
          by_cases hhg : h = g
          · subst hhg; unfold oy_G; omega
          · exact hall h (by omega))
  -- some argument of s
  have k30 : L i < 4 → ∀ d N g, d < N → g + d = kp (L i) → (∀ h, h < g → ¬ (po_S kp L R (tx_g kp L i h) j ∨ oy_G gt (tx_g kp L i h) j)) →
      wY_greater_30 post (nI (144 + i)) (nI (152 + j)) (nI (L i)) (nI (R j)) y_cap y_phase y_rules y_pairs y_lines y_size (na_F T) y_ar y_len y_pairAt y_rec y_digit y_level y_bind y_hide (na_F gt) y_fit y_path N (nI (144 + tx_g kp L i g)) (nI g) := by
    intro hs d
    induction d with
    | zero =>
      intro N g hN hg hna
      obtain ⟨N, rfl⟩ : ∃ M, N = M + 1 := ⟨N - 1, by omega⟩
      have eg : g = kp (L i) := by omega
      subst eg
      simp (disch := omega) only [wY_greater_30, li_0, li_1, li_2, li_3, li_4, li_5, li_6, li_7, li_8, li_11, li_15, li_16, li_24, li_32, li_112, li_144, li_152, li_160, li_192, li_240, li_255, li_256, li_272, li_280, li_288, li_1295, li_1296, nI_add, pk_mul, pk_sub, ni_m1, nI_clamp, ni_in, nI_leI, nI_ltI, nI_eq, forall_eq, na_at, na_upd, Nat.zero_add, Nat.add_zero, ek]
      refine ⟨by omega, br_t (by omega) (br_c (fun q => ?_) (fun q => ?_))⟩
      · exact ⟨_, k113 hs q hna (kp (R j)) _ 0 (Nat.lt_succ_self _) (by omega) (fun h hh => by omega)⟩
      · refine h0 (fun ⟨_, h⟩ => ?_)
        rcases h with ⟨h, hh, hc⟩ | ⟨hx, _⟩
        · exact hna h hh hc
        · exact q hx
    | succ d ih =>
      intro N g hN hg hna
      obtain ⟨N, rfl⟩ : ∃ M, N = M + 1 := ⟨N - 1, by omega⟩
      obtain ⟨a1, a2, a3, a4, a5⟩ := tx_args (g := g) z1 (by omega) (by omega)
      simp (disch := omega) only [wY_greater_30, li_0, li_1, li_2, li_3, li_4, li_5, li_6, li_7, li_8, li_11, li_15, li_16, li_24, li_32, li_112, li_144, li_152, li_160, li_192, li_240, li_255, li_256, li_272, li_280, li_288, li_1295, li_1296, nI_add, pk_mul, pk_sub, ni_m1, nI_clamp, ni_in, nI_leI, nI_ltI, nI_eq, forall_eq, na_at, na_upd, Nat.zero_add, Nat.add_zero, ek]
      refine ⟨by omega, br_f (by omega) ?_⟩
      refine zy_sm C0 hq (by omega) hj (fun hsm => br_f (by decide) (h1 ⟨hs, Or.inl ⟨g, by omega, Or.inl hsm⟩⟩)) (fun hsm => br_t (by decide) ?_)
      have ei : (144 + tx_g kp L i g - 144) * 8 + (152 + j) - 152 = tx_g kp L i g * 8 + j := by omega
      have g2 := hgt (tx_g kp L i g * 8 + j)
      simp (disch := omega) only [li_0, li_1, li_2, li_3, li_4, li_5, li_6, li_7, li_8, li_11, li_15, li_16, li_24, li_32, li_112, li_144, li_152, li_160, li_192, li_240, li_255, li_256, li_272, li_280, li_288, li_1295, li_1296, nI_add, pk_mul, pk_sub, ni_m1, nI_clamp, ni_in, nI_leI, nI_ltI, nI_eq, forall_eq, na_at, na_upd, Nat.zero_add, Nat.add_zero, ei]
      refine ⟨by omega, br_c (fun q => ?_) (fun q => h1 ⟨hs, Or.inl ⟨g, by omega, Or.inr (by unfold oy_G; omega)⟩⟩)⟩
      refine zy_eL C0 hq (by omega) ?_
      exact ih N (g + 1) (by omega) (by omega) (fun h hh => by
        by_cases hhg : h = g
        · subst hhg
          rintro (z | z)
          · exact hsm z
          · unfold oy_G at z; omega
        · exact hna h (by omega))
  unfold wpY_greater
  simp (disch := omega) only [li_0, li_1, li_2, li_3, li_4, li_5, li_6, li_7, li_8, li_11, li_15, li_16, li_24, li_32, li_112, li_144, li_152, li_160, li_192, li_240, li_255, li_256, li_272, li_280, li_288, li_1295, li_1296, nI_add, pk_mul, pk_sub, ni_m1, nI_clamp, ni_in, nI_leI, nI_ltI, nI_eq, forall_eq, na_at, na_upd, Nat.zero_add, Nat.add_zero, c8, c9]
  refine ⟨by omega, by omega, br_c (fun q => ?_) (fun q => h0 (fun ⟨h, _⟩ => q h))⟩
  exact ⟨_, k30 q (kp (L i)) _ 0 (Nat.lt_succ_self _) (by omega) (fun h hh => by omega)⟩
end
end
section
section
variable {y_cap y_phase y_rules y_pairs y_lines y_size : Int32} {y_m y_ar y_len y_pairAt y_rec y_digit y_level y_bind y_hide y_gt y_fit y_path : Nat → Int32}
theorem ni_bn {v : Nat} (h : v < 2) : vp_nar .boolean (nI v) = nI v := by
  have : v = 0 ∨ v = 1 := by omega
  rcases this with e | e <;> subst e <;> rfl
theorem zy_rel167 {post : Int32 → SY → Prop} {J156 : Int32 → (Nat → Int32) → (Nat → Int32) → (Nat → Int32) → (Nat → Int32) → (Nat → Int32) → (Nat → Int32) → (Nat → Int32) → (Nat → Int32) → (Nat → Int32) → (Nat → Int32) → (Nat → Int32) → (Nat → Int32) → Prop} {x9 : Int32} {T kp L R lv : Nat → Nat} {nL nR i : Nat} (C : oy_C T kp L R nL nR) (hq : ∀ t, t < 8 → y_ar (8 + t) = nI (kp t)) (hlv : ∀ t, t < 4 → y_level t = nI (lv t)) (hl4 : ∀ t, lv t < 4) (hi : i < nL)
    (hJ : ∀ gt, (∀ k, gt k < 2) → (∀ x y, i ≤ x → x < nL → y < nR → (oy_G gt x y ↔ po_G kp L R lv x y)) → J156 (nI i - nI 1) (na_F T) y_ar y_len y_pairAt y_rec y_digit y_level y_bind y_hide (na_F gt) y_fit y_path) :
    ∀ j N gt, j < N → j ≤ nR → (∀ k, gt k < 2) →
      (∀ x y, (i < x ∨ (x = i ∧ j ≤ y)) → x < nL → y < nR → (oy_G gt x y ↔ po_G kp L R lv x y)) →
      wY_relation_167 post J156 x9 (nI i) y_cap y_phase y_rules y_pairs y_lines y_size N (nI j - nI 1) (na_F T) y_ar y_len y_pairAt y_rec y_digit y_level y_bind y_hide (na_F gt) y_fit y_path := by
  have C0 := C
  obtain ⟨c1, c2, c3, c4, c5, c6, c7, c8, c9⟩ := C
  intro j
  induction j with
  | zero =>
    intro N gt hN hj hh hg
    obtain ⟨N, rfl⟩ : ∃ M, N = M + 1 := ⟨N - 1, by omega⟩
    refine br_t ni_nlt0 ?_
    refine nm_r (e' := nI i - nI 1) (ni_pm i) ?_
    exact hJ gt hh (fun x y h1 h2 h3 => hg x y (by omega) h2 h3)
  | succ j ih =>
    intro N gt hN hj hh hg
    obtain ⟨N, rfl⟩ : ∃ M, N = M + 1 := ⟨N - 1, by omega⟩
    rw [ni_sp]
    refine br_f (nI_pos (by omega)) ?_
    have key : ∀ v, v < 2 → (v = 1 ↔ po_s kp L R lv (oy_G gt) i j) → wY_relation_167 post J156 x9 (nI i) y_cap y_phase y_rules y_pairs y_lines y_size N (nI j - nI 1) (na_F T) y_ar y_len y_pairAt y_rec y_digit y_level y_bind y_hide (na_F (na_u gt (i * 8 + j) v)) y_fit y_path := by
      intro v hv1 hv2
      refine ih N (na_u gt (i * 8 + j) v) (by omega) (by omega) (fun k => by unfold na_u; split; exact hv1; exact hh k) (fun x y h1 h2 h3 => ?_)
      by_cases e : x = i ∧ y = j
      · obtain ⟨e1, e2⟩ := e
        subst e1
        subst e2
        unfold oy_G
        rw [na_us, hv2]
        exact po_use c6 c7 c4 c5 hi (by omega) (fun x' y' h4 h5 h6 h7 h8 => hg x' y' (by omega) h6 h7)
      · unfold oy_G
        rw [na_un (by omega)]
        exact hg x y (by omega) h2 h3
    have h144 : (144 : Int32) + nI i = nI (144 + i) := nI_add 144 i
    have h152 : (152 : Int32) + nI j = nI (152 + j) := nI_add 152 j
    rw [h144, h152]
    refine zy_greater (lv := lv) C0 hq hlv hl4 hi (show j < nR by omega) hh (fun hs => ?_) (fun hs => ?_)
    · have K := key 1 (by omega) ⟨fun _ => hs, fun _ => rfl⟩
      simp (disch := omega) only [li_0, li_1, li_2, li_3, li_4, li_5, li_6, li_7, li_8, li_11, li_15, li_16, li_24, li_32, li_112, li_144, li_152, li_160, li_192, li_240, li_255, li_256, li_272, li_280, li_288, li_1295, li_1296, nI_add, pk_mul, pk_sub, ni_m1, nI_clamp, ni_in, nI_leI, nI_ltI, nI_eq, forall_eq, na_at, na_upd, Nat.zero_add, Nat.add_zero, ni_pm, ni_b1]
      exact ⟨by omega, K⟩
    · have K := key 0 (by omega) ⟨fun z => by omega, fun z => absurd z hs⟩
      simp (disch := omega) only [li_0, li_1, li_2, li_3, li_4, li_5, li_6, li_7, li_8, li_11, li_15, li_16, li_24, li_32, li_112, li_144, li_152, li_160, li_192, li_240, li_255, li_256, li_272, li_280, li_288, li_1295, li_1296, nI_add, pk_mul, pk_sub, ni_m1, nI_clamp, ni_in, nI_leI, nI_ltI, nI_eq, forall_eq, na_at, na_upd, Nat.zero_add, Nat.add_zero, ni_pm, ni_b0]
      exact ⟨by omega, K⟩
/-- what a relation's answer says -/
def oy_V (kp lv : Nat → Nat) (l r : List Nat) (v : Int32) : Prop :=
  (l = r → v = 1) ∧ (l ≠ r → po_V kp lv l r → v = 2) ∧ (l ≠ r → ¬ po_V kp lv l r → v = 0)
theorem zy_rel156 {post : Int32 → SY → Prop} {T kp L R lv : Nat → Nat} {nL nR : Nat} (C : oy_C T kp L R nL nR) (hq : ∀ t, t < 8 → y_ar (8 + t) = nI (kp t)) (hlv : ∀ t, t < 4 → y_level t = nI (lv t)) (hl4 : ∀ t, lv t < 4)
    (hp : ∀ gt v, (∀ k, gt k < 2) → oy_V kp lv (tx_t L 0 nL) (tx_t R 0 nR) v → post v (y_cap, y_phase, y_rules, y_pairs, y_lines, y_size, na_F T, y_ar, y_len, y_pairAt, y_rec, y_digit, y_level, y_bind, y_hide, na_F gt, y_fit, y_path)) :
    ∀ i N gt, i < N → i ≤ nL → (∀ k, gt k < 2) →
      (∀ x y, i ≤ x → x < nL → y < nR → (oy_G gt x y ↔ po_G kp L R lv x y)) →
      wY_relation_156 post (nI nR) y_cap y_phase y_rules y_pairs y_lines y_size N (nI i - nI 1) (na_F T) y_ar y_len y_pairAt y_rec y_digit y_level y_bind y_hide (na_F gt) y_fit y_path := by
  have C0 := C
  obtain ⟨c1, c2, c3, c4, c5, c6, c7, c8, c9⟩ := C
  have pL : 0 < nL := by have := tx_T_pos c6; rw [tx_len] at this; exact this
  have pR : 0 < nR := by have := tx_T_pos c7; rw [tx_len] at this; exact this
  have S0 := po_S0 c6 c7 c4 c5
  have eV : po_V kp lv (tx_t L 0 nL) (tx_t R 0 nR) ↔ po_G kp L R lv 0 0 := by
    refine (po_ext c6 c7 c4 c5 ?_ ?_ 40 0 0 pL pR).symm
    · have := tx_ofl (tx_t L 0 nL)
      rw [tx_len] at this
      exact this.symm
    · have := tx_ofl (tx_t R 0 nR)
      rw [tx_len] at this
      exact this.symm
  intro i
  induction i with
  | zero =>
    intro N gt hN hi hh hg
    obtain ⟨N, rfl⟩ : ∃ M, N = M + 1 := ⟨N - 1, by omega⟩
    refine br_t ni_nlt0 ?_
    have h00 := hg 0 0 (by omega) pL pR
    unfold oy_G at h00
    rw [Nat.zero_mul, Nat.add_zero] at h00
    have g2 := hh 0
    by_cases hz : gt 0 = 0
    · have hn : ¬ po_G kp L R lv 0 0 := fun z => by have := h00.mpr z; omega
      refine br_t (by show nI (gt 0) = 0; rw [hz]; rfl) ?_
      refine zy_sm (u := 0) (v := 0) C0 hq pL pR (fun hs => br_f (by decide) ?_) (fun hs => br_t (by decide) ?_)
      · exact hp gt 1 hh ⟨fun _ => rfl, fun z => absurd (S0.mp hs) z, fun z => absurd (S0.mp hs) z⟩
      · exact hp gt 0 hh ⟨fun z => absurd (S0.mpr z) hs, fun _ z => absurd (eV.mp z) hn, fun _ _ => rfl⟩
    · have hy : po_G kp L R lv 0 0 := h00.mp (by omega)
      refine br_f (by show ¬ nI (gt 0) = 0; rw [show gt 0 = 1 by omega]; decide) ?_
      refine hp gt 2 hh ⟨fun z => absurd hy (po_irr c3 c6 c7 c4 c5 (nL + 1) 0 0 (by omega) pL pR (S0.mpr z)), fun _ _ => rfl, fun _ z => absurd (eV.mpr hy) z⟩
  | succ i ih =>
    intro N gt hN hi hh hg
    obtain ⟨N, rfl⟩ : ∃ M, N = M + 1 := ⟨N - 1, by omega⟩
    rw [ni_sp]
    refine br_f (nI_pos (by omega)) ?_
    refine nm_r (e' := nI nR - nI 1) rfl ⟨nR + 1, ?_⟩
    exact zy_rel167 C0 hq hlv hl4 (show i < nL by omega) (fun gt' h1 h2 => ih N gt' (by omega) (by omega) h1 h2) nR _ gt (by omega) (by omega) hh (fun x y h1 h2 h3 => hg x y (by omega) h2 h3)
/-! levels of a precedence -/
def pl_v (p s : Nat) : Nat := p / 4 ^ s % 4
theorem pl_4 (p s : Nat) : pl_v p s < 4 := Nat.mod_lt _ (by decide)
theorem ni_lvl {p s : Nat} (hp : p < 256) (hs : s < 4) : (nI p >>> (nI (2 * s) &&& 31)) &&& nI 3 = nI (pl_v p s) := by
  rw [pk_shrN (by omega) _ (2 * s) (s_l (2 * s) (by omega)), pk_andN (m := nI 3) (by
    have := Nat.div_le_self p (2 ^ (2 * s))
    omega) 2 (by decide)]
  unfold pl_v
  rw [Nat.pow_mul]
theorem fk_cnt : ∀ A, A < 3 → ∀ d, d < 6 → gr_c (fun g => fk_k A d g) A = fk_n A d := by decide
theorem zy_place0 {post : Int32 → Prop} {ix sd : Nat} (hp : post (nI (16 * ix + 8 * sd))) : wpY_place post (y_cap, y_phase, y_rules, y_pairs, y_lines, y_size, y_m, y_ar, y_len, y_pairAt, y_rec, y_digit, y_level, y_bind, y_hide, y_gt, y_fit, y_path) 0 (nI ix) (nI sd) := by
  refine br_t rfl ?_
  have : (16 : Int32) * nI ix + 8 * nI sd = nI (16 * ix + 8 * sd) := by
    show nI 16 * nI ix + nI 8 * nI sd = _
    rw [pk_mul, pk_mul, nI_add]
  rw [this]
  exact hp
theorem zy_placeL {post : Int32 → Prop} {ix q : Nat} (hi : ix < 8) (hq : q < 1000) (e : y_pairAt ix = nI q) (hp : post (nI (q / 16 * 16))) : wpY_place post (y_cap, y_phase, y_rules, y_pairs, y_lines, y_size, y_m, y_ar, y_len, y_pairAt, y_rec, y_digit, y_level, y_bind, y_hide, y_gt, y_fit, y_path) 1 (nI ix) 0 := by
  unfold wpY_place
  refine br_f (by decide) (br_t (by decide) ?_)
  simp (disch := omega) only [li_0, li_1, li_2, li_3, li_4, li_5, li_6, li_7, li_8, li_11, li_15, li_16, li_24, li_32, li_112, li_144, li_152, li_160, li_192, li_240, li_255, li_256, li_272, li_280, li_288, li_1295, li_1296, nI_add, pk_mul, pk_sub, ni_m1, nI_clamp, ni_in, nI_leI, nI_ltI, nI_eq, forall_eq, na_at, na_upd, Nat.zero_add, Nat.add_zero, pk_div, e]
  exact ⟨by omega, by omega, hp⟩
theorem zy_placeR {post : Int32 → Prop} {ix q : Nat} (hi : ix < 8) (e : y_pairAt ix = nI q) (hp : post (nI q)) : wpY_place post (y_cap, y_phase, y_rules, y_pairs, y_lines, y_size, y_m, y_ar, y_len, y_pairAt, y_rec, y_digit, y_level, y_bind, y_hide, y_gt, y_fit, y_path) 1 (nI ix) 1 := by
  unfold wpY_place
  refine br_f (by decide) (br_f (by decide) ?_)
  simp (disch := omega) only [li_0, li_1, li_2, li_3, li_4, li_5, li_6, li_7, li_8, li_11, li_15, li_16, li_24, li_32, li_112, li_144, li_152, li_160, li_192, li_240, li_255, li_256, li_272, li_280, li_288, li_1295, li_1296, nI_add, pk_mul, pk_sub, ni_m1, nI_clamp, ni_in, nI_leI, nI_ltI, nI_eq, forall_eq, na_at, na_upd, Nat.zero_add, Nat.add_zero, e]
  exact ⟨by omega, hp⟩
/-- the places of a rule's or pair's sides -/
def oy_P (pa : Nat → Int32) (kd ix pl pr : Nat) : Prop := (kd = 0 ∧ ix < 8 ∧ pl = 16 * ix ∧ pr = 16 * ix + 8) ∨ (kd = 1 ∧ ix < 8 ∧ pr < 1000 ∧ pa ix = nI pr ∧ pl = pr / 16 * 16)
theorem zy_pl {post : Int32 → Prop} {kd ix pl pr : Nat} (h : oy_P y_pairAt kd ix pl pr) (hp : post (nI pl)) : wpY_place post (y_cap, y_phase, y_rules, y_pairs, y_lines, y_size, y_m, y_ar, y_len, y_pairAt, y_rec, y_digit, y_level, y_bind, y_hide, y_gt, y_fit, y_path) (nI kd) (nI ix) 0 := by
  rcases h with ⟨rfl, h1, h2, h3⟩ | ⟨rfl, h1, h2, h3, h4⟩
  · refine zy_place0 (sd := 0) ?_
    rw [show 16 * ix + 8 * 0 = pl by omega]
    exact hp
  · refine zy_placeL h1 h2 h3 ?_
    rw [← h4]
    exact hp
theorem zy_pr {post : Int32 → Prop} {kd ix pl pr : Nat} (h : oy_P y_pairAt kd ix pl pr) (hp : post (nI pr)) : wpY_place post (y_cap, y_phase, y_rules, y_pairs, y_lines, y_size, y_m, y_ar, y_len, y_pairAt, y_rec, y_digit, y_level, y_bind, y_hide, y_gt, y_fit, y_path) (nI kd) (nI ix) 1 := by
  rcases h with ⟨rfl, h1, h2, h3⟩ | ⟨rfl, h1, h2, h3, h4⟩
  · refine zy_place0 (sd := 1) ?_
    rw [show 16 * ix + 8 * 1 = pr by omega]
    exact hp
  · exact zy_placeR h1 h3 hp
/-- counting the kept arguments of s -/
theorem zy_rel61 {post : Int32 → SY → Prop} {J6 : Int32 → Int32 → (Nat → Int32) → (Nat → Int32) → (Nat → Int32) → (Nat → Int32) → (Nat → Int32) → (Nat → Int32) → (Nat → Int32) → (Nat → Int32) → (Nat → Int32) → (Nat → Int32) → (Nat → Int32) → (Nat → Int32) → Prop} {x1 x2 x4 x5 : Int32} {ar dg A16 : Nat → Nat} {s : Nat} (hs : s < 4) (h3 : ar s < 3) (h6 : dg s < 6)
    (hd : ∀ t, t < 8 → y_digit t = nI (dg t))
    (hJ : ∀ B, (∀ k, k ≠ 8 + s → B k = A16 k) → B (8 + s) = fk_n (ar s) (dg s) → J6 x5 (nI (s + 1)) y_m (na_F B) y_len y_pairAt y_rec y_digit y_level y_bind y_hide y_gt y_fit y_path) :
    ∀ d N g B, d < N → g + d = ar s → (∀ t, t < 8 → B t = ar t) → (∀ k, k ≠ 8 + s → B k = A16 k) → B (8 + s) = gr_c (fun g => fk_k (ar s) (dg s) g) g →
      wY_relation_61 post J6 x1 x2 x4 x5 (nI s) y_cap y_phase y_rules y_pairs y_lines y_size N (nI g) y_m (na_F B) y_len y_pairAt y_rec y_digit y_level y_bind y_hide y_gt y_fit y_path := by
  intro d
  induction d with
  | zero =>
    intro N g B hN hg hB h1 h2
    obtain ⟨N, rfl⟩ : ∃ M, N = M + 1 := ⟨N - 1, by omega⟩
    have e1 := hB s (by omega)
    have eg : g = ar s := by omega
    rw [eg, fk_cnt _ h3 _ h6] at h2
    have K := hJ B h1 h2
    simp (disch := omega) only [wY_relation_61, li_0, li_1, li_2, li_3, li_4, li_5, li_6, li_7, li_8, li_11, li_15, li_16, li_24, li_32, li_112, li_144, li_152, li_160, li_192, li_240, li_255, li_256, li_272, li_280, li_288, li_1295, li_1296, nI_add, pk_mul, pk_sub, ni_m1, nI_clamp, ni_in, nI_leI, nI_ltI, nI_eq, forall_eq, na_at, na_upd, Nat.zero_add, Nat.add_zero, e1]
    exact ⟨by omega, br_t (by omega) K⟩
  | succ d ih =>
    intro N g B hN hg hB h1 h2
    obtain ⟨N, rfl⟩ : ∃ M, N = M + 1 := ⟨N - 1, by omega⟩
    have e1 := hB s (by omega)
    have hle := gr_cle (fun g => fk_k (ar s) (dg s) g) g
    have hS : gr_c (fun g => fk_k (ar s) (dg s) g) (g + 1) = gr_c (fun g => fk_k (ar s) (dg s) g) g + (if fk_k (ar s) (dg s) g then 1 else 0) := rfl
    simp (disch := omega) only [wY_relation_61, li_0, li_1, li_2, li_3, li_4, li_5, li_6, li_7, li_8, li_11, li_15, li_16, li_24, li_32, li_112, li_144, li_152, li_160, li_192, li_240, li_255, li_256, li_272, li_280, li_288, li_1295, li_1296, nI_add, pk_mul, pk_sub, ni_m1, nI_clamp, ni_in, nI_leI, nI_ltI, nI_eq, forall_eq, na_at, na_upd, Nat.zero_add, Nat.add_zero, e1]
    refine ⟨by omega, br_f (by omega) ?_⟩
    refine zy_kept (ar := ar) (dg := dg) (by omega) (by omega) (fun t ht => by rw [na_at, hB t ht]) hd h3 h6 (fun hk => br_f (by decide) ?_) (fun hk => br_t (by decide) ?_)
    · have K := ih N (g + 1) (na_u B (8 + s) (B (8 + s) + 1)) (by omega) (by omega) (fun t ht => by rw [na_un (by omega)]; exact hB t ht) (fun k hk => by rw [na_un hk]; exact h1 k hk) (by rw [na_us, hS, hk, h2]; rfl)
      exact ⟨by omega, by omega, K⟩
    · exact ih N (g + 1) B (by omega) (by omega) hB h1 (by rw [hS, hk, h2]; rfl)
theorem zy_relation {post : Int32 → SY → Prop} {T ar A16 dg lvl hd gt : Nat → Nat} {f p kd ix pl pr : Nat} {l r : List Nat} (hA : fd_A ar) (hf : fd_L ar f) (hpp : p < 256)
    (hT : ∀ k, T k < 8) (h16 : ∀ t, t < 8 → A16 t = ar t) (h16b : ∀ t, t < 16 → 12 ≤ t → A16 t = 0) (hdg : ∀ t, t < 8 → 4 ≤ t → dg t = 0) (hhd : ∀ j, hd j < 2) (hgt : ∀ j, gt j < 2)
    (hP : oy_P y_pairAt kd ix pl pr) (el : tx_t T pl l.length = l) (er : tx_t T pr r.length = r) (bl : l.length ≤ 8) (br : r.length ≤ 8) (pl8 : pl + l.length ≤ 144) (pr8 : pr + r.length ≤ 144) (hl : tx_T ar l) (hr : tx_T ar r)
    (hp : ∀ T' A' dg' lvl' hd' gt' v, (∀ k, T' k < 8) → (∀ k, k < 144 ∨ 160 ≤ k → T' k = T k) → (∀ t, t < 8 → A' t = ar t) → (∀ t, t < 16 → 12 ≤ t → A' t = 0) → (∀ t, t < 8 → 4 ≤ t → dg' t = 0) → (∀ j, hd' j < 2) → (∀ j, gt' j < 2) →
      oy_V (fd_kp ar f) (pl_v p) (fd_f ar f l) (fd_f ar f r) v → post v (y_cap, y_phase, y_rules, y_pairs, y_lines, y_size, na_F T', na_F A', y_len, y_pairAt, y_rec, na_F dg', na_F lvl', y_bind, na_F hd', na_F gt', y_fit, y_path)) :
    wpY_relation post (y_cap, y_phase, y_rules, y_pairs, y_lines, y_size, na_F T, na_F A16, y_len, y_pairAt, y_rec, na_F dg, na_F lvl, y_bind, na_F hd, na_F gt, y_fit, y_path) (nI kd) (nI ix) (nI f) (nI p) := by
  -- behind the digits
  have fin : ∀ A' dg' lvl', (∀ t, t < 8 → A' t = ar t) → (∀ t, t < 8 → A' (8 + t) = fd_kp ar f t) → (∀ t, t < 8 → dg' t = fd_g f t) → (∀ s, s < 4 → lvl' s = pl_v p s) →
      ∀ N, wY_relation_6 post (nI kd) (nI ix) (nI p) y_cap y_phase y_rules y_pairs y_lines y_size (N + 1) (nI (f / 6 ^ 4)) (nI 4) (na_F T) (na_F A') y_len y_pairAt y_rec (na_F dg') (na_F lvl') y_bind (na_F hd) (na_F gt) y_fit y_path := by
    intro A' dg' lvl' hA1 hA2 hd1 hl1 N
    refine br_t (by decide) ?_
    refine zy_pl hP (zy_pr hP ?_)
    have hq : ∀ t, t < 8 → na_F A' t = nI (ar t) := fun t ht => by rw [na_at, hA1 t ht]
    have hd2 : ∀ t, t < 8 → na_F dg' t = nI (fd_g f t) := fun t ht => by rw [na_at, hd1 t ht]
    refine zy_strain (n0 := l.length) (to := 144) hA hf hq hd2 hT bl pl8 (by omega) (by rw [el]; exact hl) hhd ?_
    intro T1 hd3 b1 b2 b3 b4
    rw [el] at b3 ⊢
    have e1 : tx_t T1 pr r.length = r := by
      have : tx_t T1 pr r.length = tx_t T pr r.length := tx_congr fun i hi => b2 _ (by omega)
      rw [this, er]
    refine zy_strain (n0 := r.length) (to := 152) hA hf hq hd2 b1 br (by omega) (by omega) (by rw [e1]; exact hr) b4 ?_
    intro T2 hd4 d1 d2 d3 d4
    rw [e1] at d3 ⊢
    have lL := fd_len ar f l
    have lR := fd_len ar f r
    have eL : tx_t T2 144 (fd_f ar f l).length = fd_f ar f l := by
      have : tx_t T2 144 (fd_f ar f l).length = tx_t T1 144 (fd_f ar f l).length := tx_congr fun i hi => d2 _ (by omega)
      rw [this, b3]
    have tL : tx_t (fun i => T2 (144 + i)) 0 (fd_f ar f l).length = fd_f ar f l := by rw [tx_shift T2 144]; exact eL
    have tR : tx_t (fun i => T2 (152 + i)) 0 (fd_f ar f r).length = fd_f ar f r := by rw [tx_shift T2 152]; exact d3
    have kL : tx_T (fd_kp ar f) (fd_f ar f l) := fd_T hA hf hl
    have kR : tx_T (fd_kp ar f) (fd_f ar f r) := fd_T hA hf hr
    have C : oy_C T2 (fd_kp ar f) (fun i => T2 (144 + i)) (fun i => T2 (152 + i)) (fd_f ar f l).length (fd_f ar f r).length :=
      ⟨d1, fd_kp3 hA hf, fun t ht => fd_kpv hA f ht, by omega, by omega, by rw [tL]; exact kL, by rw [tR]; exact kR, fun _ => rfl, fun _ => rfl⟩
    refine nm_r (e' := nI (fd_f ar f l).length - nI 1) rfl ⟨(fd_f ar f l).length + 1, ?_⟩
    refine zy_rel156 (lv := pl_v p) C (fun t ht => by rw [na_at, hA2 t ht]) (fun t ht => by rw [na_at, hl1 t ht]) (pl_4 p) ?_ (fd_f ar f l).length _ gt (by omega) (by omega) hgt (fun x y h1 h2 => by omega)
    intro gt' v g1 g2
    rw [tL, tR] at g2
    exact hp T2 A' dg' lvl' hd4 gt' v d1 (fun k hk => by rw [d2 k (by omega), b2 k (by omega)]) hA1 (fun t h1 h2 => by
      have := hA2 (t - 8) (by omega)
      rw [show 8 + (t - 8) = t by omega] at this
      rw [this]
      exact fd_kpv hA f (by omega)) (fun t h1 h2 => by rw [hd1 t h1]; exact if_neg (by omega)) d4 g1 g2
  -- the digits
  have key : ∀ d N s rest A' dg' lvl', d < N → s + d = 4 → rest = f / 6 ^ s → rest < 1296 → (∀ t, t < 8 → A' t = ar t) → (∀ t, t < 8 → (t < s ∨ 4 ≤ t) → A' (8 + t) = fd_kp ar f t ∧ dg' t = fd_g f t) → (∀ t, t < s → lvl' t = pl_v p t) →
      wY_relation_6 post (nI kd) (nI ix) (nI p) y_cap y_phase y_rules y_pairs y_lines y_size N (nI rest) (nI s) (na_F T) (na_F A') y_len y_pairAt y_rec (na_F dg') (na_F lvl') y_bind (na_F hd) (na_F gt) y_fit y_path := by
    intro d
    induction d with
    | zero =>
      intro N s rest A' dg' lvl' hN hs hr hb hA1 hA2 hl1
      obtain ⟨N, rfl⟩ : ∃ M, N = M + 1 := ⟨N - 1, by omega⟩
      have es : s = 4 := by omega
      subst es
      rw [hr]
      exact fin A' dg' lvl' hA1 (fun t ht => (hA2 t ht (by omega)).1) (fun t ht => (hA2 t ht (by omega)).2) hl1 N
    | succ d ih =>
      intro N s rest A' dg' lvl' hN hs hr hb hA1 hA2 hl1
      obtain ⟨N, rfl⟩ : ∃ M, N = M + 1 := ⟨N - 1, by omega⟩
      have e3 : fd_d f s = rest - rest / 6 * 6 := by
        unfold fd_d
        rw [← hr]
        omega
      have e4 : fd_g f s = fd_d f s := if_pos (by omega)
      have a3 := fd_A3 hA s
      have el := ni_lvl hpp (show s < 4 by omega)
      simp (disch := omega) only [wY_relation_6, li_0, li_1, li_2, li_3, li_4, li_5, li_6, li_7, li_8, li_11, li_15, li_16, li_24, li_32, li_112, li_144, li_152, li_160, li_192, li_240, li_255, li_256, li_272, li_280, li_288, li_1295, li_1296, nI_add, pk_mul, pk_sub, ni_m1, nI_clamp, ni_in, nI_leI, nI_ltI, nI_eq, forall_eq, na_at, na_upd, Nat.zero_add, Nat.add_zero, pk_div, el]
      refine br_f (by omega) ⟨by omega, by omega, by omega, by omega, by omega, 4, ?_⟩
      rw [← e3, ← e4]
      refine zy_rel61 (ar := ar) (dg := na_u dg' s (fd_g f s)) (A16 := na_u A' (8 + s) 0) (by omega) a3 (by rw [na_us, e4, e3]; omega) (fun t ht => rfl) ?_ (ar s) 4 0 _ (by omega) (by omega) (fun t ht => by rw [na_un (by omega)]; exact hA1 t ht) (fun _ _ => rfl) (by rw [na_us]; rfl)
      intro B hB1 hB2
      rw [na_us] at hB2
      refine ih N (s + 1) (rest / 6) B _ _ (by omega) (by omega) (by rw [fd_dS, ← hr]) (by omega) (fun t ht => by rw [hB1 t (by omega), na_un (by omega)]; exact hA1 t ht) (fun t ht hts => ?_) (fun t ht => ?_)
      · by_cases e : t = s
        · subst e
          rw [na_us]
          exact ⟨hB2, rfl⟩
        · rw [hB1 _ (by omega), na_un (by omega), na_un e]
          exact hA2 t ht (by omega)
      · by_cases e : t = s
        · subst e; rw [na_us]
        · rw [na_un e]; exact hl1 t (by omega)
  refine ⟨5, key 4 5 0 f A16 dg lvl (by omega) (by omega) (by simp) hf.1 h16 (fun t ht hts => ?_) (fun t ht => by omega)⟩
  have h4 : 4 ≤ t := by omega
  rw [h16b (8 + t) (by omega) (by omega), hdg t ht h4, fd_kpv hA f h4]
  exact ⟨rfl, (if_neg (by omega)).symm⟩
end
end
section
section
variable {x_pairSlot x_subjectBase x_filteredLeft x_filteredRight x_scratch x_allOrders x_equalMark x_termCells x_phase x_ruleCount x_pairCount x_lineCount x_defined x_openSide x_openMissing x_subjectLength x_subjectMissing : Int32} {x_tok x_end x_cut x_length x_precedences x_above x_greater x_relation x_arity x_shape x_kept x_bound x_links x_lines : Nat → Int32}
variable {y_cap y_phase y_rules y_pairs y_lines y_size : Int32} {y_m y_ar y_len y_pairAt y_rec y_digit y_level y_bind y_hide y_gt y_fit y_path : Nat → Int32}
def pl_l : List Nat := [27, 30, 39, 45, 54, 57, 75, 78, 99, 108, 114, 120, 135, 141, 147, 156, 177, 180, 198, 201, 210, 216, 225, 228]
def pl_T (o : Nat) : Nat := pl_l.getD o 0
def pl_ok (p : Nat) : Bool := decide ((2 ^ (p % 4) ||| 2 ^ (p / 4 % 4)) ||| (2 ^ (p / 16 % 4) ||| 2 ^ (p / 64 % 4)) = 15)
def pl_c (p : Nat) : Nat := gr_c pl_ok p
theorem pl_f1 : ∀ o, o < 24 → pl_T o < 256 ∧ pl_ok (pl_T o) = true ∧ pl_c (pl_T o) = o := by decide +kernel
theorem pl_f2 : ∀ p, p < 256 → pl_ok p = true → pl_c p < 24 ∧ pl_T (pl_c p) = p := by decide +kernel
theorem pl_used : ∀ p, p < 256 → ((((((nI 1) <<< ((nI p &&& nI 3) &&& 31)) ||| ((nI 1) <<< (((nI p >>> (nI 2 &&& 31)) &&& nI 3) &&& 31))) ||| ((nI 1) <<< (((nI p >>> (nI 4 &&& 31)) &&& nI 3) &&& 31))) ||| ((nI 1) <<< (((nI p >>> (nI 6 &&& 31)) &&& nI 3) &&& 31))) = nI 15 ↔ pl_ok p = true) := by decide +kernel
theorem pl_le : ∀ p, p < 256 → ∀ k, k < 16 → (((nI p >>> (((nI k >>> (nI 2 &&& 31)) * nI 2) &&& 31)) &&& nI 3) ≤ ((nI p >>> (((nI k &&& nI 3) * nI 2) &&& 31)) &&& nI 3) ↔ pl_v p (k / 4) ≤ pl_v p (k % 4)) := by decide +kernel
def pl_sn (p : Nat) : Nat → Int32
  | 0 => nI 0
  | s + 1 => pl_sn p s ||| (nI 1 <<< (((nI p >>> (nI (2 * s) &&& 31)) &&& nI 3) &&& 31))
theorem pl_seen : ∀ p, p < 256 → (pl_sn p 4 = nI 15 ↔ pl_ok p = true) := by decide +kernel
def pl_up (ab : Nat → Int32) (p c k j : Nat) : Int32 := if j < k ∧ pl_v p (j % 4) < pl_v p (j / 4) then ab j ||| (nI 1 <<< (nI c &&& 31)) else ab j
theorem zx_lp64 {post : SX → Prop} {J4 : Int32 → Int32 → (Nat → Int32) → (Nat → Int32) → (Nat → Int32) → (Nat → Int32) → (Nat → Int32) → (Nat → Int32) → (Nat → Int32) → (Nat → Int32) → (Nat → Int32) → (Nat → Int32) → (Nat → Int32) → (Nat → Int32) → (Nat → Int32) → (Nat → Int32) → Prop} {c p : Nat} {ab0 : Nat → Int32} (hp : p < 256) (hc : c < 24)
    (hJ : ∀ ab, (∀ j, j < 16 → ab j = pl_up ab0 p c 16 j) → J4 (nI (c + 1)) (nI (p + 1)) x_tok x_end x_cut x_length x_precedences ab x_greater x_relation x_arity x_shape x_kept x_bound x_links x_lines) :
    ∀ d N k ab, d < N → k + d = 16 → (∀ j, j < 16 → ab j = pl_up ab0 p c k j) → wX_listPrecedences_64 post J4 (nI c) (nI p) x_pairSlot x_subjectBase x_filteredLeft x_filteredRight x_scratch x_allOrders x_equalMark x_termCells x_phase x_ruleCount x_pairCount x_lineCount x_defined x_openSide x_openMissing x_subjectLength x_subjectMissing N (nI k) x_tok x_end x_cut x_length x_precedences ab x_greater x_relation x_arity x_shape x_kept x_bound x_links x_lines := by
  intro d
  induction d with
  | zero =>
    intro N k ab hN hk h
    obtain ⟨N, rfl⟩ : ∃ M, N = M + 1 := ⟨N - 1, by omega⟩
    have ek : k = 16 := by omega
    subst ek
    have K := hJ ab h
    simp (disch := omega) only [wX_listPrecedences_64, li_0, li_1, li_2, li_3, li_4, li_5, li_6, li_7, li_8, li_11, li_15, li_16, li_24, li_32, li_112, li_144, li_152, li_160, li_192, li_240, li_255, li_256, li_272, li_280, li_288, li_1295, li_1296, nI_add, pk_mul, pk_sub, ni_m1, nI_clamp, ni_in, nI_leI, nI_ltI, nI_eq, forall_eq, na_at, na_upd, Nat.zero_add, Nat.add_zero]
    exact br_t (by omega) K
  | succ d ih =>
    intro N k ab hN hk h
    obtain ⟨N, rfl⟩ : ∃ M, N = M + 1 := ⟨N - 1, by omega⟩
    have hle := pl_le p hp k (by omega)
    have K1 : pl_v p (k / 4) ≤ pl_v p (k % 4) → _ := fun hq => ih N (k + 1) ab (by omega) (by omega) (fun j hj => by
      rw [h j hj]
      unfold pl_up
      by_cases e : j < k ∧ pl_v p (j % 4) < pl_v p (j / 4)
      · rw [if_pos e, if_pos ⟨by omega, e.2⟩]
      · rw [if_neg e, if_neg (fun z => e ⟨by
          have : j ≠ k := fun e2 => by rw [e2] at z; omega
          omega, z.2⟩)])
    have K2 : ¬ pl_v p (k / 4) ≤ pl_v p (k % 4) → _ := fun hq => ih N (k + 1) (upd ab k (ab k ||| (nI 1 <<< (nI c &&& 31)))) (by omega) (by omega) (fun j hj => by
      by_cases e : j = k
      · subst e
        rw [pk_us, h j hj]
        unfold pl_up
        rw [if_neg (by omega), if_pos ⟨by omega, by omega⟩]
      · rw [pk_un e, h j hj]
        unfold pl_up
        by_cases e2 : j < k ∧ pl_v p (j % 4) < pl_v p (j / 4)
        · rw [if_pos e2, if_pos ⟨by omega, e2.2⟩]
        · rw [if_neg e2, if_neg (fun z => e2 ⟨by omega, z.2⟩)])
    unfold wX_listPrecedences_64
    refine br_f (nI_ge (b := 16) (by omega) (by omega)) ?_
    refine br_c (fun q => ?_) (fun q => ?_)
    · have q' := hle.mp q
      refine nm_r (e' := nI (k + 1)) (nI_1 k) ?_
      exact K1 q'
    · have q' : ¬ pl_v p (k / 4) ≤ pl_v p (k % 4) := fun z => q (hle.mpr z)
      refine ⟨vp_in_nI (by omega) (by omega), vp_in_nI (by omega) (by omega), ?_⟩
      rw [nI_clamp (by omega)]
      refine nm_e (nm_r (e' := nI (k + 1)) (nI_1 k) ?_)
      exact K2 q'
/-- the table of precedences and the sets above, complete -/
def pl_A (ab : Nat → Int32) : Prop := ∀ a b, a < 4 → b < 4 → ∀ o, o < 32 → (bt (ab (a * 4 + b)) o = true ↔ o < 24 ∧ pl_v (pl_T o) b < pl_v (pl_T o) a)
def pl_P (pc : Nat → Nat) : Prop := ∀ o, o < 24 → pc o = pl_T o
theorem pl_cS (p : Nat) : pl_c (p + 1) = pl_c p + (if pl_ok p then 1 else 0) := rfl
theorem pl_cm {p q : Nat} (h : p ≤ q) : pl_c p ≤ pl_c q := by
  obtain ⟨d, rfl⟩ : ∃ d, q = p + d := ⟨q - p, by omega⟩
  clear h
  induction d with
  | zero => exact Nat.le_refl _
  | succ d ih =>
    rw [← Nat.add_assoc, pl_cS]
    omega
theorem zx_lp4 {post : SX → Prop} (hp : ∀ pc ab, pl_P pc → pl_A ab → post (x_pairSlot, x_subjectBase, x_filteredLeft, x_filteredRight, x_scratch, x_allOrders, x_equalMark, x_termCells, x_phase, x_ruleCount, x_pairCount, x_lineCount, x_defined, x_openSide, x_openMissing, x_subjectLength, x_subjectMissing, x_tok, x_end, x_cut, x_length, na_F pc, ab, x_greater, x_relation, x_arity, x_shape, x_kept, x_bound, x_links, x_lines)) :
    ∀ d N p pc ab, d < N → p + d = 256 → (∀ q, q < p → pl_ok q = true → pc (pl_c q) = q) → (∀ k, k < 16 → ∀ o, o < 32 → (bt (ab k) o = true ↔ ∃ q, q < p ∧ pl_ok q = true ∧ pl_c q = o ∧ pl_v q (k % 4) < pl_v q (k / 4))) →
      wX_listPrecedences_4 post x_pairSlot x_subjectBase x_filteredLeft x_filteredRight x_scratch x_allOrders x_equalMark x_termCells x_phase x_ruleCount x_pairCount x_lineCount x_defined x_openSide x_openMissing x_subjectLength x_subjectMissing N (nI (pl_c p)) (nI p) x_tok x_end x_cut x_length (na_F pc) ab x_greater x_relation x_arity x_shape x_kept x_bound x_links x_lines := by
  have done : ∀ p pc ab, p ≤ 256 → (256 ≤ p ∨ 24 ≤ pl_c p) → (∀ q, q < p → pl_ok q = true → pc (pl_c q) = q) → (∀ k, k < 16 → ∀ o, o < 32 → (bt (ab k) o = true ↔ ∃ q, q < p ∧ pl_ok q = true ∧ pl_c q = o ∧ pl_v q (k % 4) < pl_v q (k / 4))) → post (x_pairSlot, x_subjectBase, x_filteredLeft, x_filteredRight, x_scratch, x_allOrders, x_equalMark, x_termCells, x_phase, x_ruleCount, x_pairCount, x_lineCount, x_defined, x_openSide, x_openMissing, x_subjectLength, x_subjectMissing, x_tok, x_end, x_cut, x_length, na_F pc, ab, x_greater, x_relation, x_arity, x_shape, x_kept, x_bound, x_links, x_lines) := by
    intro p pc ab hp256 hend h1 h2
    have hlt : ∀ o, o < 24 → pl_T o < p := by
      intro o ho
      obtain ⟨f1, f2, f3⟩ := pl_f1 o ho
      rcases hend with h | h
      · omega
      · apply Nat.lt_of_not_le
        intro hle
        have := pl_cm hle
        omega
    refine hp pc ab (fun o ho => ?_) (fun a b ha hb o ho => ?_)
    · obtain ⟨f1, f2, f3⟩ := pl_f1 o ho
      have := h1 _ (hlt o ho) f2
      rw [f3] at this
      exact this
    · rw [h2 (a * 4 + b) (by omega) o ho, show (a * 4 + b) % 4 = b by omega, show (a * 4 + b) / 4 = a by omega]
      constructor
      · rintro ⟨q, q1, q2, q3, q4⟩
        obtain ⟨g1, g2⟩ := pl_f2 q (by omega) q2
        rw [q3] at g1 g2
        refine ⟨g1, ?_⟩
        rw [g2]
        exact q4
      · rintro ⟨h3, h4⟩
        obtain ⟨f1, f2, f3⟩ := pl_f1 o h3
        exact ⟨pl_T o, hlt o h3, f2, f3, h4⟩
  intro d
  induction d with
  | zero =>
    intro N p pc ab hN hpd h1 h2
    obtain ⟨N, rfl⟩ : ∃ M, N = M + 1 := ⟨N - 1, by omega⟩
    refine br_t (nI_le (a := 256) (by omega) (by omega)) ?_
    exact done p pc ab (by omega) (Or.inl (by omega)) h1 h2
  | succ d ih =>
    intro N p pc ab hN hpd h1 h2
    obtain ⟨N, rfl⟩ : ∃ M, N = M + 1 := ⟨N - 1, by omega⟩
    have hc := gr_cle pl_ok p
    have hc' : pl_c p ≤ p := hc
    refine br_f (nI_ge (b := 256) (by omega) (by omega)) ?_
    by_cases h24 : 24 ≤ pl_c p
    · exact br_t (nI_le (a := 24) (by omega) (by omega)) (done p pc ab (by omega) (Or.inr h24) h1 h2)
    · refine br_f (nI_ge (b := 24) (by omega) (by omega)) ?_
      refine nm_e ?_
      have hu := pl_used p (by omega)
      by_cases hok : pl_ok p = true
      · refine br_t (hu.mpr hok) ⟨vp_in_nI (by omega) (by omega), ?_⟩
        rw [nI_clamp (by omega), na_upd]
        refine nm_e ⟨17, ?_⟩
        refine zx_lp64 (ab0 := ab) (by omega) (by omega) ?_ 16 17 0 ab (by omega) (by omega) (fun j hj => by unfold pl_up; rw [if_neg (by omega)])
        intro ab' hab
        have eS : pl_c p + 1 = pl_c (p + 1) := by rw [pl_cS, hok]; rfl
        rw [eS]
        refine ih N (p + 1) _ ab' (by omega) (by omega) ?_ ?_
        · intro q hq hq2
          by_cases e : q = p
          · subst e; rw [na_us]
          · have hlt : pl_c q < pl_c p := by
              have e1 := pl_cS q
              rw [hq2] at e1
              have e2 : pl_c (q + 1) = pl_c q + 1 := e1
              have := pl_cm (show q + 1 ≤ p by omega)
              omega
            rw [na_un (by omega)]
            exact h1 q (by omega) hq2
        · intro k hk o ho
          rw [hab k hk]
          unfold pl_up
          by_cases e : k < 16 ∧ pl_v p (k % 4) < pl_v p (k / 4)
          · rw [if_pos e, b_or, zb_one (by omega) ho, Bool.or_eq_true, h2 k hk o ho]
            constructor
            · rintro (⟨q, q1, q2⟩ | q)
              · exact ⟨q, by omega, q2⟩
              · exact ⟨p, by omega, hok, (of_decide_eq_true q).symm, e.2⟩
            · rintro ⟨q, q1, q2, q3, q4⟩
              by_cases e2 : q = p
              · right
                rw [e2] at q3
                exact decide_eq_true q3.symm
              · exact Or.inl ⟨q, by omega, q2, q3, q4⟩
          · rw [if_neg e, h2 k hk o ho]
            constructor
            · rintro ⟨q, q1, q2⟩
              exact ⟨q, by omega, q2⟩
            · rintro ⟨q, q1, q2, q3, q4⟩
              by_cases e2 : q = p
              · rw [e2] at q4
                exact absurd ⟨hk, q4⟩ e
              · exact ⟨q, by omega, q2, q3, q4⟩
      · refine br_f (fun z => hok (hu.mp z)) ?_
        refine nm_r (e' := nI (p + 1)) (nI_1 p) ?_
        have eS : pl_c p = pl_c (p + 1) := by
          rw [pl_cS, show pl_ok p = false by cases h : pl_ok p; rfl; exact absurd h hok]
          rfl
        rw [eS]
        refine ih N (p + 1) pc ab (by omega) (by omega) ?_ ?_
        · intro q hq hq2
          by_cases e : q = p
          · subst e; exact absurd hq2 hok
          · exact h1 q (by omega) hq2
        · intro k hk o ho
          rw [h2 k hk o ho]
          constructor
          · rintro ⟨q, q1, q2⟩
            exact ⟨q, by omega, q2⟩
          · rintro ⟨q, q1, q2, q3⟩
            by_cases e2 : q = p
            · rw [e2] at q2; exact absurd q2 hok
            · exact ⟨q, by omega, q2, q3⟩
theorem zx_listPrec {post : SX → Prop} (hp : ∀ pc ab, pl_P pc → pl_A ab → post (x_pairSlot, x_subjectBase, x_filteredLeft, x_filteredRight, x_scratch, x_allOrders, x_equalMark, x_termCells, x_phase, x_ruleCount, x_pairCount, x_lineCount, x_defined, x_openSide, x_openMissing, x_subjectLength, x_subjectMissing, x_tok, x_end, x_cut, x_length, na_F pc, ab, x_greater, x_relation, x_arity, x_shape, x_kept, x_bound, x_links, x_lines)) :
    wpX_listPrecedences post (x_pairSlot, x_subjectBase, x_filteredLeft, x_filteredRight, x_scratch, x_allOrders, x_equalMark, x_termCells, x_phase, x_ruleCount, x_pairCount, x_lineCount, x_defined, x_openSide, x_openMissing, x_subjectLength, x_subjectMissing, x_tok, x_end, x_cut, x_length, na_F (fun _ => 0), na_F (fun _ => 0), x_greater, x_relation, x_arity, x_shape, x_kept, x_bound, x_links, x_lines) := by
  refine ⟨257, zx_lp4 hp 256 257 0 _ _ (by omega) (by omega) (fun q hq => by omega) (fun k hk o ho => ⟨fun z => ?_, fun ⟨q, hq, _⟩ => by omega⟩)⟩
  have : bt (nI 0) o = true := z
  rw [zb_0] at this
  exact absurd this (by decide)
theorem zx_precIx {post : Int32 → Prop} {pc : Nat → Nat} {p0 : Int32} (hP : pl_P pc) (h1 : ∀ o, o < 24 → p0 = nI (pl_T o) → post (nI o)) (h0 : (∀ o, o < 24 → p0 ≠ nI (pl_T o)) → post (-1)) :
    wpX_precedenceIndex post (x_pairSlot, x_subjectBase, x_filteredLeft, x_filteredRight, x_scratch, x_allOrders, x_equalMark, x_termCells, x_phase, x_ruleCount, x_pairCount, x_lineCount, x_defined, x_openSide, x_openMissing, x_subjectLength, x_subjectMissing, x_tok, x_end, x_cut, x_length, na_F pc, x_above, x_greater, x_relation, x_arity, x_shape, x_kept, x_bound, x_links, x_lines) p0 := by
  have key : ∀ d N k, d < N → k + d = 24 → (∀ o, o < k → p0 ≠ nI (pl_T o)) → wX_precedenceIndex_2 post p0 x_pairSlot x_subjectBase x_filteredLeft x_filteredRight x_scratch x_allOrders x_equalMark x_termCells x_phase x_ruleCount x_pairCount x_lineCount x_defined x_openSide x_openMissing x_subjectLength x_subjectMissing x_tok x_end x_cut x_length (na_F pc) x_above x_greater x_relation x_arity x_shape x_kept x_bound x_links x_lines N (nI k) := by
    intro d
    induction d with
    | zero =>
      intro N k hN hk h
      obtain ⟨N, rfl⟩ : ∃ M, N = M + 1 := ⟨N - 1, by omega⟩
      exact br_t (nI_le (a := 24) (by omega) (by omega)) (h0 fun o ho => h o (by omega))
    | succ d ih =>
      intro N k hN hk h
      obtain ⟨N, rfl⟩ : ∃ M, N = M + 1 := ⟨N - 1, by omega⟩
      have e := hP k (by omega)
      have K := fun (hne : p0 ≠ nI (pl_T k)) => ih N (k + 1) (by omega) (by omega) (fun o ho => by
        by_cases e2 : o = k
        · subst e2; exact hne
        · exact h o (by omega))
      refine br_f (nI_ge (b := 24) (by omega) (by omega)) ⟨vp_in_nI (by omega) (by omega), ?_⟩
      rw [nI_clamp (by omega), na_at, e]
      refine br_c (fun q => h1 k (by omega) q.symm) (fun q => ?_)
      refine nm_r (e' := nI (k + 1)) (nI_1 k) ?_
      exact K (fun z => q z.symm)
  exact ⟨25, key 24 25 0 (by omega) (by omega) (fun o ho => by omega)⟩
theorem zy_legalP {post : Int32 → Prop} {p0 : Int32} (h1 : ∀ o, o < 24 → p0 = nI (pl_T o) → post 1) (h0 : (∀ o, o < 24 → p0 ≠ nI (pl_T o)) → post 0) :
    wpY_legalPrecedence post (y_cap, y_phase, y_rules, y_pairs, y_lines, y_size, y_m, y_ar, y_len, y_pairAt, y_rec, y_digit, y_level, y_bind, y_hide, y_gt, y_fit, y_path) p0 := by
  by_cases hn : p0 < 0
  · refine br_t hn (h0 fun o ho e => ?_)
    rw [e] at hn
    exact nI_pos (by have := (pl_f1 o ho).1; omega) hn
  · refine br_f hn ?_
    obtain ⟨p, hp, rfl⟩ := nI_of hn
    by_cases h255 : p ≤ 255
    · refine br_t (nI_le (b := 255) h255 (by omega)) ⟨5, ?_⟩
      have fin : (pl_sn p 4 = nI 15 → post 1) ∧ (¬ pl_sn p 4 = nI 15 → post 0) := by
        have hs := pl_seen p (by omega)
        refine ⟨fun z => ?_, fun z => ?_⟩
        · obtain ⟨g1, g2⟩ := pl_f2 p (by omega) (hs.mp z)
          exact h1 _ g1 (by rw [g2])
        · refine h0 fun o ho e => ?_
          obtain ⟨f1, f2, f3⟩ := pl_f1 o ho
          have : p = pl_T o := (nI_eq hp (by omega)).mp e
          rw [← this] at f2
          exact z (hs.mpr f2)
      have key : ∀ d N s, d < N → s + d = 4 → wY_legalPrecedence_17 post (nI p) y_cap y_phase y_rules y_pairs y_lines y_size y_m y_ar y_len y_pairAt y_rec y_digit y_level y_bind y_hide y_gt y_fit y_path N (pl_sn p s) (nI s) := by
        intro d
        induction d with
        | zero =>
          intro N s hN hs
          obtain ⟨N, rfl⟩ : ∃ M, N = M + 1 := ⟨N - 1, by omega⟩
          have es : s = 4 := by omega
          subst es
          exact br_t (by decide) fin
        | succ d ih =>
          intro N s hN hs
          obtain ⟨N, rfl⟩ : ∃ M, N = M + 1 := ⟨N - 1, by omega⟩
          refine br_f (nI_ge (b := 4) (by omega) (by omega)) ?_
          refine nm_r (e' := pl_sn p (s + 1)) ?_ (nm_r (e' := nI (s + 1)) (nI_1 s) (ih N (s + 1) (by omega) (by omega)))
          show _ ||| (nI 1 <<< (((nI p >>> ((nI 2 * nI s) &&& 31)) &&& nI 3) &&& 31)) = _
          rw [pk_mul]
          rfl
      exact key 4 5 0 (by omega) (by omega)
    · refine br_f (nI_ge (a := 255) (by omega) (by omega)) (h0 fun o ho e => ?_)
      have f1 := (pl_f1 o ho).1
      have : p = pl_T o := (nI_eq hp (by omega)).mp e
      omega
end
end
section
section
variable {x_pairSlot x_subjectBase x_filteredLeft x_filteredRight x_scratch x_allOrders x_equalMark x_termCells x_phase x_ruleCount x_pairCount x_lineCount x_defined x_openSide x_openMissing x_subjectLength x_subjectMissing : Int32} {x_tok x_end x_cut x_length x_precedences x_above x_greater x_relation x_arity x_shape x_kept x_bound x_links x_lines : Nat → Int32}
variable {y_cap y_phase y_rules y_pairs y_lines y_size : Int32} {y_m y_ar y_len y_pairAt y_rec y_digit y_level y_bind y_hide y_gt y_fit y_path : Nat → Int32}
/-! connected (component) -/
/-- the set of defined symbols as bits -/
def cx_D (df : Int32) (D : Nat → Prop) : Prop := ∀ t, t < 8 → (bt df t = true ↔ D t)
theorem zx_conn55 {post : Int32 → Prop} {T en ar U V : Nat → Nat} {D : Nat → Prop} {bu bv nU nV : Nat} (hA : fd_A ar) (hT : ∀ k, T k < 8) (hD : cx_D x_defined D) (hU : ∀ i, T (bu + i) = U i) (hV : ∀ i, T (bv + i) = V i)
    (tU : tx_T ar (tx_t U 0 nU)) (tV : tx_T ar (tx_t V 0 nV)) (bU : nU ≤ 8) (bV : nV ≤ 8) (hbu : bu + 8 ≤ 320) (hbv : bv + 8 ≤ 320)
    (eU : ∀ i, i < nU → en (bu + i) = bu + (i + tx_z ar U i)) (eV : ∀ i, i < nV → en (bv + i) = bv + (i + tx_z ar V i)) {P : Prop} (h1 : P → post 1) (h0 : ¬ P → post 0) :
    ∀ d N i j k m n, d < N → i + d = nU → k < i → 0 < j → j + n ≤ nV → tx_M ar (tx_t U i d) m 0 → tx_M ar (tx_t V j n) m 0 → (cf_A ar U V (cf_F ar U V D) m i j ↔ P) →
      wX_connected_55 post (nI (bu + nU)) x_pairSlot x_subjectBase x_filteredLeft x_filteredRight x_scratch x_allOrders x_equalMark x_termCells x_phase x_ruleCount x_pairCount x_lineCount x_defined x_openSide x_openMissing x_subjectLength x_subjectMissing (na_F T) (na_F en) x_cut x_length x_precedences x_above x_greater x_relation x_arity x_shape x_kept x_bound x_links x_lines N (nI (bu + i)) (nI (bv + j)) (nI k) := by
  intro d
  induction d using Nat.strongRecOn with
  | ind d ih =>
  intro N i j k m n hN hid hki hj hjn hMU hMV hP
  obtain ⟨N, rfl⟩ : ∃ M, N = M + 1 := ⟨N - 1, by omega⟩
  by_cases hd0 : d = 0
  · subst hd0
    have em : m = 0 := hMU
    subst em
    have K := h1 (hP.mp (cf_A0 _ _ _ _ _ _))
    simp (disch := omega) only [wX_connected_55, li_0, li_1, li_2, li_3, li_4, li_5, li_6, li_7, li_8, li_11, li_15, li_16, li_24, li_32, li_112, li_144, li_152, li_160, li_192, li_240, li_255, li_256, li_272, li_280, li_288, li_1295, li_1296, nI_add, pk_mul, pk_sub, ni_m1, nI_clamp, ni_in, nI_leI, nI_ltI, nI_eq, forall_eq, na_at, na_upd, Nat.zero_add, Nat.add_zero]
    exact br_c (fun _ => K) (fun _ => br_t (by omega) K)
  · -- a term on both sides
    obtain ⟨d, rfl⟩ : ∃ e, d = e + 1 := ⟨d - 1, by omega⟩
    have hMU0 := hMU
    obtain ⟨m0, em, hMU1⟩ := hMU
    subst em
    have hn : 0 < n := by
      have := tx_M_le _ _ hMV
      rw [tx_len] at this
      omega
    obtain ⟨n', rfl⟩ : ∃ e, n = e + 1 := ⟨n - 1, by omega⟩
    have hMV0 := hMV
    obtain ⟨m1, em1, hMV1⟩ := hMV
    have e01 : m1 = m0 := by omega
    subst e01
    have t1 : U i < 8 := by rw [← hU]; exact hT _
    have t2 : V j < 8 := by rw [← hV]; exact hT _
    have e1 := eU i (by omega)
    have e2 := eV j (by omega)
    obtain ⟨z1, z2, z3⟩ := tx_subz (j := 0) hMU0 (by omega) (by omega)
    obtain ⟨w1, w2, w3⟩ := tx_subz (j := 0) hMV0 (by omega) (by omega)
    rw [Nat.add_zero] at z1 z2 z3 w1 w2 w3
    have hfix := cf_fix (df := D) tU tV bU bV (show i < nU by omega) (show j < nV by omega)
    rw [cf_A1] at hP
    -- skipping both terms
    have skip : (4 ≤ U i ∨ 4 ≤ V j ∨ D (U i)) → wX_connected_55 post (nI (bu + nU)) x_pairSlot x_subjectBase x_filteredLeft x_filteredRight x_scratch x_allOrders x_equalMark x_termCells x_phase x_ruleCount x_pairCount x_lineCount x_defined x_openSide x_openMissing x_subjectLength x_subjectMissing (na_F T) (na_F en) x_cut x_length x_precedences x_above x_greater x_relation x_arity x_shape x_kept x_bound x_links x_lines N (nI (bu + (i + tx_z ar U i))) (nI (bv + (j + tx_z ar V j))) (nI (k + 1)) := by
      intro hs
      have hF : cf_F ar U V D i j := hfix.mpr (Or.inr hs)
      have s1 : tx_M ar (tx_t U (i + tx_z ar U i) (d + 1 - tx_z ar U i)) m1 0 := by
        rw [Nat.add_comm m1 1] at hMU0
        obtain ⟨n1, n2, en1, q1, q2⟩ := tx_sp hMU0
        have : tx_z ar U i = n1 := tx_z_of q1 (by omega)
        rw [this, show d + 1 - n1 = n2 by omega]
        exact q2
      have s2 : tx_M ar (tx_t V (j + tx_z ar V j) (n' + 1 - tx_z ar V j)) m1 0 := by
        rw [Nat.add_comm m1 1] at hMV0
        obtain ⟨n1, n2, en1, q1, q2⟩ := tx_sp hMV0
        have : tx_z ar V j = n1 := tx_z_of q1 (by omega)
        rw [this, show n' + 1 - n1 = n2 by omega]
        exact q2
      exact ih (d + 1 - tx_z ar U i) (by omega) N _ _ (k + 1) m1 (n' + 1 - tx_z ar V j) (by omega) (by omega) (by omega) (by omega) (by omega) s1 s2 ⟨fun z => hP.mp ⟨hF, z⟩, fun z => (hP.mpr z).2⟩
    have down : ¬ (4 ≤ U i ∨ 4 ≤ V j ∨ D (U i)) → U i = V j → wX_connected_55 post (nI (bu + nU)) x_pairSlot x_subjectBase x_filteredLeft x_filteredRight x_scratch x_allOrders x_equalMark x_termCells x_phase x_ruleCount x_pairCount x_lineCount x_defined x_openSide x_openMissing x_subjectLength x_subjectMissing (na_F T) (na_F en) x_cut x_length x_precedences x_above x_greater x_relation x_arity x_shape x_kept x_bound x_links x_lines N (nI (bu + i + 1)) (nI (bv + j + 1)) (nI (k + 1)) := by
      intro hs hUV
      have hF : cf_F ar U V D i j ↔ cf_A ar U V (cf_F ar U V D) (ar (U i)) (i + 1) (j + 1) := by
        rw [hfix]
        unfold cf_s cf_l cf_A
        constructor
        · rintro (⟨_, h⟩ | h)
          · intro g hg
            rw [← tx_gk, ← tx_gk]
            exact h g hg
          · exact absurd h hs
        · intro h
          refine Or.inl ⟨hUV, fun g hg => ?_⟩
          rw [tx_gk, tx_gk]
          exact h g hg
      have k1 : tx_k ar U (i + 1) (ar (U i)) = i + tx_z ar U i := by rw [← tx_gk]; exact tx_arge z1 (by omega)
      have k2 : tx_k ar V (j + 1) (ar (U i)) = j + tx_z ar V j := by rw [← tx_gk, hUV]; exact tx_arge w1 (by omega)
      refine ih d (by omega) N (i + 1) (j + 1) (k + 1) (ar (U i) + m1) n' (by omega) (by omega) (by omega) (by omega) (by omega) ?_ ?_ ?_
      · rw [Nat.add_comm (ar (U i)) m1]; exact hMU1
      · rw [Nat.add_comm (ar (U i)) m1, hUV]; exact hMV1
      · rw [cf_Ap, k1, k2, ← hF]
        exact hP
    have bD := hD (U i) t1
    have q1 := zb_q (n := U i) (by omega) x_defined
    simp (disch := omega) only [wX_connected_55, wX_connected_105, li_0, li_1, li_2, li_3, li_4, li_5, li_6, li_7, li_8, li_11, li_15, li_16, li_24, li_32, li_112, li_144, li_152, li_160, li_192, li_240, li_255, li_256, li_272, li_280, li_288, li_1295, li_1296, nI_add, pk_mul, pk_sub, ni_m1, nI_clamp, ni_in, nI_leI, nI_ltI, nI_eq, forall_eq, na_at, na_upd, Nat.zero_add, Nat.add_zero, hU, hV, e1, e2, q1]
    refine br_f (by omega) (br_f (by omega) ⟨by omega, br_c (fun q => ⟨by omega, by omega, skip (Or.inl (by omega))⟩) (fun q => ⟨by omega, br_c (fun q2 => ⟨by omega, by omega, skip (Or.inr (Or.inl (by omega)))⟩) (fun q2 => ⟨by omega, br_c (fun q3 => ⟨by omega, by omega, ?_⟩) (fun q3 => ⟨by omega, by omega, skip (Or.inr (Or.inr (bD.mp ?_)))⟩)⟩)⟩)⟩)
    · have hs : ¬ (4 ≤ U i ∨ 4 ≤ V j ∨ D (U i)) := by
        rintro (h | h | h)
        · omega
        · omega
        · have := bD.mpr h
          rw [q3] at this
          exact absurd this (by decide)
      refine br_c (fun q4 => down hs q4) (fun q4 => h0 fun z => ?_)
      have hF := (hP.mpr z).1
      rcases hfix.mp hF with h | h
      · exact q4 h.1
      · exact hs h
    · cases hb : bt x_defined (U i) with
      | true => rfl
      | false => exact absurd hb q3
theorem zx_connected {post : Int32 → Prop} {T en ar U V : Nat → Nat} {D : Nat → Prop} {p q nU nV : Nat} (hA : fd_A ar) (hT : ∀ k, T k < 8) (hD : cx_D x_defined D) (hp : p < 8) (hq : q < 8) (hU : ∀ i, T ((7 + p) * 16 + 8 + i) = U i) (hV : ∀ i, T ((7 + q) * 16 + i) = V i)
    (tU : tx_T ar (tx_t U 0 nU)) (tV : tx_T ar (tx_t V 0 nV)) (bU : nU ≤ 8) (bV : nV ≤ 8)
    (eU : ∀ i, i < nU → en ((7 + p) * 16 + 8 + i) = (7 + p) * 16 + 8 + (i + tx_z ar U i)) (eV : ∀ i, i < nV → en ((7 + q) * 16 + i) = (7 + q) * 16 + (i + tx_z ar V i)) (h1 : cf_C ar U V D → post 1) (h0 : ¬ cf_C ar U V D → post 0) :
    wpX_connected post (x_pairSlot, x_subjectBase, x_filteredLeft, x_filteredRight, x_scratch, x_allOrders, x_equalMark, x_termCells, x_phase, x_ruleCount, x_pairCount, x_lineCount, x_defined, x_openSide, x_openMissing, x_subjectLength, x_subjectMissing, na_F T, na_F en, x_cut, x_length, x_precedences, x_above, x_greater, x_relation, x_arity, x_shape, x_kept, x_bound, x_links, x_lines) (nI p) (nI q) := by
  have pU : 0 < nU := by have := tx_T_pos tU; rw [tx_len] at this; exact this
  have pV : 0 < nV := by have := tx_T_pos tV; rw [tx_len] at this; exact this
  have zU : tx_z ar U 0 = nU := tx_z_of tU (by omega)
  have zV : tx_z ar V 0 = nV := tx_z_of tV (by omega)
  have u0 := hU 0
  have v0 := hV 0
  rw [Nat.add_zero] at u0 v0
  have e1 := eU 0 pU
  have e2 := eV 0 pV
  rw [zU, Nat.zero_add, Nat.add_zero] at e1
  rw [zV, Nat.zero_add, Nat.add_zero] at e2
  have t1 : U 0 < 8 := by rw [← hU]; exact hT _
  have t2 : V 0 < 8 := by rw [← hV]; exact hT _
  unfold wpX_connected
  simp (disch := omega) only [li_0, li_1, li_2, li_3, li_4, li_5, li_6, li_7, li_8, li_11, li_15, li_16, li_24, li_32, li_112, li_144, li_152, li_160, li_192, li_240, li_255, li_256, li_272, li_280, li_288, li_1295, li_1296, nI_add, pk_mul, pk_sub, ni_m1, nI_clamp, ni_in, nI_leI, nI_ltI, nI_eq, forall_eq, na_at, na_upd, Nat.zero_add, Nat.add_zero, u0, v0, e1]
  refine ⟨by omega, by omega, br_c (fun h => ⟨by omega, 9, ?_⟩) (fun h => h0 fun z => h z.1)⟩
  obtain ⟨nu, rfl⟩ : ∃ e, nU = e + 1 := ⟨nU - 1, by omega⟩
  obtain ⟨nv, rfl⟩ : ∃ e, nV = e + 1 := ⟨nV - 1, by omega⟩
  have tU0 := tU
  have tV0 := tV
  obtain ⟨m0, em, hM⟩ := tU
  obtain ⟨m1, em1, hM1⟩ := tV
  have m00 : m0 = 0 := by omega
  have m10 : m1 = 0 := by omega
  subst m00
  subst m10
  rw [Nat.zero_add (ar (U 0))] at hM
  rw [Nat.zero_add (ar (V 0))] at hM1
  refine zx_conn55 (P := cf_C ar U V D) hA hT hD hU hV tU0 tV0 bU bV (by omega) (by omega) eU eV h1 h0 nu 9 1 1 0 (ar (U 0)) nv (by omega) (by omega) (by omega) (by omega) (by omega) hM (by rw [h]; exact hM1) ?_
  unfold cf_C cf_l cf_A
  constructor
  · intro z
    refine ⟨h, fun g hg => ?_⟩
    rw [tx_gk, tx_gk]
    exact z g hg
  · rintro ⟨_, z⟩ g hg
    have := z g hg
    rw [tx_gk, tx_gk] at this
    exact this
/-! edge (reference) -/
def cy_G (ft : Nat → Nat) (x y : Nat) : Prop := ft (x * 8 + y) = 1
theorem zy_edge124 {post : Int32 → SY → Prop} {J66 J78 : Int32 → (Nat → Int32) → (Nat → Int32) → (Nat → Int32) → (Nat → Int32) → (Nat → Int32) → (Nat → Int32) → (Nat → Int32) → (Nat → Int32) → (Nat → Int32) → (Nat → Int32) → (Nat → Int32) → (Nat → Int32) → Prop} {T ar U V ft : Nat → Nat} {u v nU nV i j R : Nat} {x6 : Int32} (hA : fd_A ar) (hq : ∀ t, t < 8 → y_ar t = nI (ar t)) (hT : ∀ k, T k < 8) (hR : R ≤ 6) (hU : ∀ i, T (u + i) = U i) (hV : ∀ i, T (v + i) = V i)
    (tU : tx_T ar (tx_t U 0 nU)) (tV : tx_T ar (tx_t V 0 nV)) (bU : nU ≤ 8) (bV : nV ≤ 8) (hu : u + nU ≤ 112) (hv : v + nV ≤ 112) (hi : i < nU) (hj : j < nV) (hft : ∀ k, ft k < 2)
    (hret : i = 0 → j = 0 → ((cf_l ar U V (cy_G ft) 0 0 → post 1 (y_cap, y_phase, nI R, y_pairs, y_lines, y_size, na_F T, y_ar, y_len, y_pairAt, y_rec, y_digit, y_level, y_bind, y_hide, y_gt, na_F ft, y_path)) ∧ (¬ cf_l ar U V (cy_G ft) 0 0 → post 0 (y_cap, y_phase, nI R, y_pairs, y_lines, y_size, na_F T, y_ar, y_len, y_pairAt, y_rec, y_digit, y_level, y_bind, y_hide, y_gt, na_F ft, y_path))))
    (hJ : (i ≠ 0 ∨ j ≠ 0) → ∀ b, b < 2 → (b = 1 ↔ cf_s ar U V (zd_D T R) (cy_G ft) i j) → J78 (nI (v + j) - nI 1) (na_F T) y_ar y_len y_pairAt y_rec y_digit y_level y_bind y_hide y_gt (na_F (na_u ft (i * 8 + j) b)) y_path) :
    ∀ d N g c, d < N → g + d = ar (U i) ∨ c = 0 → (U i = V j ∨ c = 0) → c < 2 → (c = 1 → ∀ h, h < g → cy_G ft (tx_g ar U i h) (tx_g ar V j h)) → (c = 0 → ¬ cf_l ar U V (cy_G ft) i j) → 
      wY_edge_124 post J66 J78 (nI u) (nI v) x6 (nI (u + i)) (nI (v + j)) y_cap y_phase (nI R) y_pairs y_lines y_size (na_F T) y_ar y_len y_pairAt y_rec y_digit y_level y_bind y_hide y_gt (na_F ft) y_path N (nI c) (nI (u + tx_g ar U i g)) (nI (v + tx_g ar V j g)) (nI g) := by
  obtain ⟨z1, z2, z3⟩ := tx_subk tU (by omega) (Nat.zero_le i) (by omega)
  obtain ⟨w1, w2, w3⟩ := tx_subk tV (by omega) (Nat.zero_le j) (by omega)
  have t1 : U i < 8 := by rw [← hU]; exact hT _
  have t2 : V j < 8 := by rw [← hV]; exact hT _
  have a3 := fd_A3 hA (U i)
  have eq := hq _ t1
  have ei : (u + i - u) * 8 + (v + j) - v = i * 8 + j := by
    rw [show u + i - u = i by omega]
    omega
  -- behind the arguments: alike is c
  have fin : ∀ c, c < 2 → (c = 1 ↔ cf_l ar U V (cy_G ft) i j) → wY_edge_190 post J66 J78 (nI u) (nI v) x6 (nI (u + i)) (nI (v + j)) (nI c) y_cap y_phase (nI R) y_pairs y_lines y_size (na_F T) y_ar y_len y_pairAt y_rec y_digit y_level y_bind y_hide y_gt (na_F ft) y_path := by
    intro c hc2 hc
    have f206 : (i ≠ 0 ∨ j ≠ 0) → wY_edge_206 post J66 J78 (nI u) (nI v) x6 (nI (u + i)) (nI (v + j)) (nI c) y_cap y_phase (nI R) y_pairs y_lines y_size (na_F T) y_ar y_len y_pairAt y_rec y_digit y_level y_bind y_hide y_gt (na_F ft) y_path := by
      intro hij
      have K1 : cf_s ar U V (zd_D T R) (cy_G ft) i j → _ := fun h => hJ hij 1 (by omega) ⟨fun _ => h, fun _ => rfl⟩
      have K0 : ¬ cf_s ar U V (zd_D T R) (cy_G ft) i j → _ := fun h => hJ hij 0 (by omega) ⟨fun z => absurd z (by omega), fun z => absurd z h⟩
      simp (disch := omega) only [wY_edge_206, li_0, li_1, li_2, li_3, li_4, li_5, li_6, li_7, li_8, li_11, li_15, li_16, li_24, li_32, li_112, li_144, li_152, li_160, li_192, li_240, li_255, li_256, li_272, li_280, li_288, li_1295, li_1296, nI_add, pk_mul, pk_sub, ni_m1, nI_clamp, ni_in, nI_leI, nI_ltI, nI_eq, forall_eq, na_at, na_upd, Nat.zero_add, Nat.add_zero, hU, hV, ei, ni_b1, ni_b0, ni_pm]
      refine br_c (fun q => ⟨by omega, br_c (fun q2 => ⟨by omega, K1 (Or.inr (Or.inl q2))⟩) (fun q2 => ⟨by omega, br_c (fun q3 => ⟨by omega, K1 (Or.inr (Or.inr (Or.inl q3)))⟩) (fun q3 => ⟨by omega, ?_⟩)⟩)⟩) (fun q => ⟨by omega, K1 (Or.inl (hc.mp (by omega)))⟩)
      refine zy_defined hT (by omega) t1 (fun hd => br_f (by decide) ⟨by omega, K1 (Or.inr (Or.inr (Or.inr hd)))⟩) (fun hd => br_t (by decide) ⟨by omega, K0 ?_⟩)
      rintro (h | h | h | h)
      · have := hc.mpr h; omega
      · exact q2 h
      · exact q3 h
      · exact hd h
    have eqb : (nI (u + i) = nI u ↔ i = 0) := by rw [nI_eq (by omega) (by omega)]; omega
    have eqc : (nI (v + j) = nI v ↔ j = 0) := by rw [nI_eq (by omega) (by omega)]; omega
    unfold wY_edge_190
    rw [eqb, eqc]
    refine br_c (fun hi0 => br_c (fun hj0 => ⟨ni_nb _ hc2, ?_⟩) (fun hj0 => f206 (Or.inr hj0))) (fun hi0 => f206 (Or.inl hi0))
    obtain ⟨r1, r0⟩ := hret hi0 hj0
    rw [hi0, hj0] at hc
    have : c = 0 ∨ c = 1 := by omega
    rcases this with e | e
    · subst e
      exact r0 fun z => absurd (hc.mpr z) (by omega)
    · subst e
      exact r1 (hc.mp rfl)
  intro d
  induction d with
  | zero =>
    intro N g c hN hg hUV hc2 hc1 hc0
    obtain ⟨N, rfl⟩ : ∃ M, N = M + 1 := ⟨N - 1, by omega⟩
    by_cases hc : c = 0
    · subst hc
      exact br_t rfl (fin 0 (by omega) ⟨fun z => absurd z (by omega), fun z => absurd z (hc0 rfl)⟩)
    · have ec : c = 1 := by omega
      subst ec
      have hg' : g = ar (U i) := by omega
      have hUV' : U i = V j := by omega
      have K := fin 1 (by omega) ⟨fun _ => ⟨hUV', fun h hh => hc1 rfl h (by omega)⟩, fun _ => rfl⟩
      simp (disch := omega) only [wY_edge_124, li_0, li_1, li_2, li_3, li_4, li_5, li_6, li_7, li_8, li_11, li_15, li_16, li_24, li_32, li_112, li_144, li_152, li_160, li_192, li_240, li_255, li_256, li_272, li_280, li_288, li_1295, li_1296, nI_add, pk_mul, pk_sub, ni_m1, nI_clamp, ni_in, nI_leI, nI_ltI, nI_eq, forall_eq, na_at, na_upd, Nat.zero_add, Nat.add_zero, hU, eq]
      exact br_f (by omega) ⟨by omega, by omega, br_t (by omega) K⟩
  | succ d ih =>
    intro N g c hN hg hUV hc2 hc1 hc0
    obtain ⟨N, rfl⟩ : ∃ M, N = M + 1 := ⟨N - 1, by omega⟩
    by_cases hc : c = 0
    · subst hc
      exact br_t rfl (fin 0 (by omega) ⟨fun z => absurd z (by omega), fun z => absurd z (hc0 rfl)⟩)
    · have ec : c = 1 := by omega
      subst ec
      have hUV' : U i = V j := by omega
      have eV : ar (V j) = ar (U i) := by rw [hUV']
      obtain ⟨a1, a2, a3', a4, a5⟩ := tx_args (g := g) z1 (by omega) (by omega)
      obtain ⟨b1, b2, b3, b4, b5⟩ := tx_args (g := g) w1 (by omega) (by omega)
      have eg : (u + tx_g ar U i g - u) * 8 + (v + tx_g ar V j g) - v = tx_g ar U i g * 8 + tx_g ar V j g := by
        rw [show u + tx_g ar U i g - u = tx_g ar U i g by omega]
        omega
      have f2 := hft (tx_g ar U i g * 8 + tx_g ar V j g)
      have tt1 : ∀ n, tx_t T (u + tx_g ar U i g) n = tx_t U (tx_g ar U i g) n := fun n => tx_congr fun k _ => by rw [Nat.add_assoc, hU]
      have tt2 : ∀ n, tx_t T (v + tx_g ar V j g) n = tx_t V (tx_g ar V j g) n := fun n => tx_congr fun k _ => by rw [Nat.add_assoc, hV]
      have K := ih N (g + 1) (ft (tx_g ar U i g * 8 + tx_g ar V j g)) (by omega) (by omega) (by omega) f2 (fun e h hh => by
        by_cases e2 : h = g
        · subst e2; exact e
        · exact hc1 rfl h (by omega)) (fun e z => by
        have := z.2 g (by omega)
        unfold cy_G at this
        omega)
      simp (disch := omega) only [wY_edge_124, li_0, li_1, li_2, li_3, li_4, li_5, li_6, li_7, li_8, li_11, li_15, li_16, li_24, li_32, li_112, li_144, li_152, li_160, li_192, li_240, li_255, li_256, li_272, li_280, li_288, li_1295, li_1296, nI_add, pk_mul, pk_sub, ni_m1, nI_clamp, ni_in, nI_leI, nI_ltI, nI_eq, forall_eq, na_at, na_upd, Nat.zero_add, Nat.add_zero, hU, eq, eg]
      refine br_f (by omega) ⟨by omega, by omega, br_f (by omega) ⟨by omega, ?_⟩⟩
      refine zy_end0 (n := tx_z ar U (tx_g ar U i g)) hT hq (fd_A3 hA) (by omega) (by rw [tt1]; exact a3') ?_
      refine zy_end0 (n := tx_z ar V (tx_g ar V j g)) hT hq (fd_A3 hA) (by omega) (by rw [tt2]; exact b3) ?_
      rw [Nat.add_assoc, Nat.add_assoc]
      exact K
end
end
section
section
variable {y_cap y_phase y_rules y_pairs y_lines y_size : Int32} {y_m y_ar y_len y_pairAt y_rec y_digit y_level y_bind y_hide y_gt y_fit y_path : Nat → Int32}
theorem zy_edge78 {post : Int32 → SY → Prop} {J66 : Int32 → (Nat → Int32) → (Nat → Int32) → (Nat → Int32) → (Nat → Int32) → (Nat → Int32) → (Nat → Int32) → (Nat → Int32) → (Nat → Int32) → (Nat → Int32) → (Nat → Int32) → (Nat → Int32) → (Nat → Int32) → Prop} {T ar U V : Nat → Nat} {u v nU nV i R : Nat} {x6 : Int32} (hA : fd_A ar) (hq : ∀ t, t < 8 → y_ar t = nI (ar t)) (hT : ∀ k, T k < 8) (hR : R ≤ 6) (hU : ∀ i, T (u + i) = U i) (hV : ∀ i, T (v + i) = V i)
    (tU : tx_T ar (tx_t U 0 nU)) (tV : tx_T ar (tx_t V 0 nV)) (bU : nU ≤ 8) (bV : nV ≤ 8) (hu : u + nU ≤ 112) (hv : v + nV ≤ 112) (hi : i < nU)
    (hret : i = 0 → ∀ ft, (∀ k, ft k < 2) → ((cf_C ar U V (zd_D T R) → post 1 (y_cap, y_phase, nI R, y_pairs, y_lines, y_size, na_F T, y_ar, y_len, y_pairAt, y_rec, y_digit, y_level, y_bind, y_hide, y_gt, na_F ft, y_path)) ∧ (¬ cf_C ar U V (zd_D T R) → post 0 (y_cap, y_phase, nI R, y_pairs, y_lines, y_size, na_F T, y_ar, y_len, y_pairAt, y_rec, y_digit, y_level, y_bind, y_hide, y_gt, na_F ft, y_path))))
    (hJ : i ≠ 0 → ∀ ft, (∀ k, ft k < 2) → (∀ x y, i ≤ x → x < nU → y < nV → (cy_G ft x y ↔ cf_F ar U V (zd_D T R) x y)) → J66 (nI (u + i) - nI 1) (na_F T) y_ar y_len y_pairAt y_rec y_digit y_level y_bind y_hide y_gt (na_F ft) y_path) :
    ∀ j N ft, j < N → j ≤ nV → (i ≠ 0 ∨ 0 < j) → (∀ k, ft k < 2) → (∀ x y, (i < x ∨ (x = i ∧ j ≤ y)) → x < nU → y < nV → (cy_G ft x y ↔ cf_F ar U V (zd_D T R) x y)) →
      wY_edge_78 post J66 (nI u) (nI v) x6 (nI (u + i)) y_cap y_phase (nI R) y_pairs y_lines y_size N (nI (v + j) - nI 1) (na_F T) y_ar y_len y_pairAt y_rec y_digit y_level y_bind y_hide y_gt (na_F ft) y_path := by
  intro j
  induction j with
  | zero =>
    intro N ft hN hj hij hft hF
    obtain ⟨N, rfl⟩ : ∃ M, N = M + 1 := ⟨N - 1, by omega⟩
    refine br_t (ni_dn (by omega)) ?_
    refine nm_r (e' := nI (u + i) - nI 1) (ni_pm _) ?_
    exact hJ (by omega) ft hft (fun x y h1 h2 h3 => hF x y (by omega) h2 h3)
  | succ j ih =>
    intro N ft hN hj hij hft hF
    obtain ⟨N, rfl⟩ : ∃ M, N = M + 1 := ⟨N - 1, by omega⟩
    have t1 : U i < 8 := by rw [← hU]; exact hT _
    have t2 : V j < 8 := by rw [← hV]; exact hT _
    have a3 := fd_A3 hA (U i)
    have hlc : cf_l ar U V (cy_G ft) i j ↔ cf_l ar U V (cf_F ar U V (zd_D T R)) i j :=
      cf_lcongr tU tV bU bV hi (by omega) (fun x y h1 h2 h3 h4 => hF x y (Or.inl h1) h3 h4)
    have K : ∀ c, c < 2 → (c = 1 ↔ U i = V j) → wY_edge_124 post J66 (wY_edge_78 post J66 (nI u) (nI v) x6 (nI (u + i)) y_cap y_phase (nI R) y_pairs y_lines y_size N) (nI u) (nI v) x6 (nI (u + i)) (nI (v + j)) y_cap y_phase (nI R) y_pairs y_lines y_size (na_F T) y_ar y_len y_pairAt y_rec y_digit y_level y_bind y_hide y_gt (na_F ft) y_path 4 (nI c) (nI (u + i + 1)) (nI (v + j + 1)) (nI 0) := by
      intro c hc hcU
      refine zy_edge124 hA hq hT hR hU hV tU tV bU bV hu hv hi (show j < nV by omega) hft ?_ ?_ (ar (U i)) 4 0 c (by omega) (by omega) (by omega) hc (fun _ h hh => by omega) (fun e z => by have := hcU.mpr z.1; omega)
      · intro hi0 hj0
        obtain ⟨r1, r0⟩ := hret hi0 ft hft
        subst hi0
        subst hj0
        exact ⟨fun z => r1 (hlc.mp z), fun z => r0 (fun z2 => z (hlc.mpr z2))⟩
      · intro hij b hb hbs
        refine ih N (na_u ft (i * 8 + j) b) (by omega) (by omega) (by omega) (fun k => by unfold na_u; split; exact hb; exact hft k) (fun x y h1 h2 h3 => ?_)
        by_cases e : x = i ∧ y = j
        · obtain ⟨e1, e2⟩ := e
          subst e1
          subst e2
          unfold cy_G
          rw [na_us, hbs, cf_fix tU tV bU bV hi (by omega)]
          unfold cf_s
          rw [hlc]
        · unfold cy_G
          rw [na_un (by omega)]
          exact hF x y (by omega) h2 h3
    rw [show v + (j + 1) = v + j + 1 by omega, ni_sp]
    simp (disch := omega) only [wY_edge_78, wY_edge_107, li_0, li_1, li_2, li_3, li_4, li_5, li_6, li_7, li_8, li_11, li_15, li_16, li_24, li_32, li_112, li_144, li_152, li_160, li_192, li_240, li_255, li_256, li_272, li_280, li_288, li_1295, li_1296, nI_add, pk_mul, pk_sub, ni_m1, nI_clamp, ni_in, nI_leI, nI_ltI, nI_eq, forall_eq, na_at, na_upd, Nat.zero_add, Nat.add_zero, hU, hV]
    refine br_f (by omega) ⟨by omega, by omega, br_c (fun e => ⟨4, K 1 (by omega) ⟨fun _ => e, fun _ => rfl⟩⟩) (fun e => ⟨4, K 0 (by omega) ⟨fun z => by omega, fun z => absurd z e⟩⟩)⟩
theorem zy_edge {post : Int32 → SY → Prop} {T ar ft : Nat → Nat} {lu lv : List Nat} {u v p q P R : Nat} (hA : fd_A ar) (hq : ∀ t, t < 8 → y_ar t = nI (ar t)) (hT : ∀ k, T k < 8) (hR : R ≤ 6) (hP : P ≤ 8) (hp : p < P) (hqq : q < P)
    (ep : y_pairAt p = nI u) (eq : y_pairAt q = nI v) (tU : tx_T ar (tx_t T u lu.length)) (tV : tx_T ar (tx_t T (v / 16 * 16) lv.length)) (bU : lu.length ≤ 8) (bV : lv.length ≤ 8) (hu : u + lu.length ≤ 112) (hv : v / 16 * 16 + lv.length ≤ 112) (hv2 : v < 1000) (hft : ∀ k, ft k < 2)
    (eu : tx_t T u lu.length = lu) (ev : tx_t T (v / 16 * 16) lv.length = lv)
    (h1 : ∀ ft, (∀ k, ft k < 2) → cf_C ar (fun i => T (u + i)) (fun i => T (v / 16 * 16 + i)) (zd_D T R) → post 1 (y_cap, y_phase, nI R, nI P, y_lines, y_size, na_F T, y_ar, y_len, y_pairAt, y_rec, y_digit, y_level, y_bind, y_hide, y_gt, na_F ft, y_path))
    (h0 : ∀ ft, (∀ k, ft k < 2) → ¬ cf_C ar (fun i => T (u + i)) (fun i => T (v / 16 * 16 + i)) (zd_D T R) → post 0 (y_cap, y_phase, nI R, nI P, y_lines, y_size, na_F T, y_ar, y_len, y_pairAt, y_rec, y_digit, y_level, y_bind, y_hide, y_gt, na_F ft, y_path)) :
    wpY_edge post (y_cap, y_phase, nI R, nI P, y_lines, y_size, na_F T, y_ar, y_len, y_pairAt, y_rec, y_digit, y_level, y_bind, y_hide, y_gt, na_F ft, y_path) (nI p) (nI q) := by
  have pU : 0 < lu.length := by have := tx_T_pos tU; rw [tx_len] at this; exact this
  have pV : 0 < lv.length := by have := tx_T_pos tV; rw [tx_len] at this; exact this
  have kU : tx_T ar (tx_t (fun i => T (u + i)) 0 lu.length) := by rw [tx_shift]; exact tU
  have kV : tx_T ar (tx_t (fun i => T (v / 16 * 16 + i)) 0 lv.length) := by rw [tx_shift T (v / 16 * 16)]; exact tV
  have key : ∀ i N ft, i < N → i < lu.length → (∀ k, ft k < 2) → (∀ x y, i + 1 ≤ x → x < lu.length → y < lv.length → (cy_G ft x y ↔ cf_F ar (fun i => T (u + i)) (fun i => T (v / 16 * 16 + i)) (zd_D T R) x y)) →
      wY_edge_66 post (nI u) (nI (v / 16 * 16)) (nI (v / 16 * 16 + lv.length)) y_cap y_phase (nI R) (nI P) y_lines y_size N (nI (u + i)) (na_F T) y_ar y_len y_pairAt y_rec y_digit y_level y_bind y_hide y_gt (na_F ft) y_path := by
    intro i
    induction i with
    | zero =>
      intro N ft hN hi hft hF
      obtain ⟨N, rfl⟩ : ∃ M, N = M + 1 := ⟨N - 1, by omega⟩
      refine br_f (nI_nlt (by omega) (by omega)) ?_
      refine nm_r (e' := nI (v / 16 * 16 + lv.length) - nI 1) rfl ⟨lv.length + 1, ?_⟩
      exact zy_edge78 (i := 0) hA hq hT hR (fun _ => rfl) (fun _ => rfl) kU kV bU bV hu hv hi (fun _ ft hft => ⟨fun z => h1 ft hft z, fun z => h0 ft hft z⟩) (fun z => absurd rfl z) lv.length _ ft (by omega) (by omega) (by omega) hft (fun x y h3 h4 h5 => hF x y (by omega) h4 h5)
    | succ i ih =>
      intro N ft hN hi hft hF
      obtain ⟨N, rfl⟩ : ∃ M, N = M + 1 := ⟨N - 1, by omega⟩
      refine br_f (nI_nlt (by omega) (by omega)) ?_
      refine nm_r (e' := nI (v / 16 * 16 + lv.length) - nI 1) rfl ⟨lv.length + 1, ?_⟩
      refine zy_edge78 (i := i + 1) hA hq hT hR (fun _ => rfl) (fun _ => rfl) kU kV bU bV hu hv hi (fun z => absurd z (by omega)) (fun _ ft' hft' hF' => ?_) lv.length _ ft (by omega) (by omega) (by omega) hft (fun x y h3 h4 h5 => hF x y (by omega) h4 h5)
      rw [show u + (i + 1) = u + i + 1 by omega, ni_sp]
      exact ih N ft' (by omega) (by omega) hft' hF'
  refine br_f (nI_pos (by omega)) (br_f (nI_pos (by omega)) (br_f (nI_ge hp (by omega)) (br_t (nI_lt hqq (by omega)) ?_)))
  refine zy_placeR (q := u) (by omega) ep ?_
  refine zy_placeL (q := v) (by omega) hv2 eq ?_
  refine zy_end0 hT hq (fd_A3 hA) (by omega) tU ?_
  refine zy_end0 hT hq (fd_A3 hA) (by omega) tV ?_
  refine nm_r (e' := nI (u + (lu.length - 1))) ?_ ⟨lu.length, ?_⟩
  · show nI (u + lu.length) - nI 1 = _
    rw [pk_sub (by omega)]
    congr 1
    omega
  · exact key (lu.length - 1) _ ft (by omega) (by omega) hft (fun x y h3 h4 => by omega)
end
end
section
section
variable {x_pairSlot x_subjectBase x_filteredLeft x_filteredRight x_scratch x_allOrders x_equalMark x_termCells x_phase x_ruleCount x_pairCount x_lineCount x_defined x_openSide x_openMissing x_subjectLength x_subjectMissing : Int32} {x_tok x_end x_cut x_length x_precedences x_above x_greater x_relation x_arity x_shape x_kept x_bound x_links x_lines : Nat → Int32}
variable {y_cap y_phase y_rules y_pairs y_lines y_size : Int32} {y_m y_ar y_len y_pairAt y_rec y_digit y_level y_bind y_hide y_gt y_fit y_path : Nat → Int32}
/-! the component's closure -/
theorem zx_cl25 {post : Int32 → Prop} {J15 : Int32 → Int32 → Prop} {K : Nat → Nat → Prop} {st f0 : Int32} {bs k : Nat} (hb : bs ≤ 8) (hk : k < 8) (hK : ∀ r, r < 8 → ∀ s, s < 32 → (bt (x_links (bs + r) &&& st) s = true ↔ K r s)) (hK8 : ∀ r s, K r s → s < 8)
    (hJ : ∀ fd, gr_rd K (bt f0) (bt fd) → J15 fd (nI (k + 1))) :
    ∀ d N r fd, d < N → r + d = 8 → (∀ i, bt f0 i = true → bt fd i = true) → (∀ r' s, r' < r → s < 8 → bt f0 r' = true → K r' s → bt fd s = true) →
      (∀ S : Nat → Prop, (∀ i, bt f0 i = true → S i) → gr_K K S → ∀ i, bt fd i = true → S i) →
      wX_closure_25 post J15 st (nI bs) (nI k) x_pairSlot x_subjectBase x_filteredLeft x_filteredRight x_scratch x_allOrders x_equalMark x_termCells x_phase x_ruleCount x_pairCount x_lineCount x_defined x_openSide x_openMissing x_subjectLength x_subjectMissing x_tok x_end x_cut x_length x_precedences x_above x_greater x_relation x_arity x_shape x_kept x_bound x_links x_lines N fd (nI r) := by
  intro d
  induction d with
  | zero =>
    intro N r fd hN hr h1 h2 h3
    obtain ⟨N, rfl⟩ : ∃ M, N = M + 1 := ⟨N - 1, by omega⟩
    have L := hJ fd ⟨h1, fun r' s hr' hs => h2 r' s (by omega) hs, h3⟩
    refine br_t (nI_le (a := 8) (by omega) (by omega)) ?_
    exact nm_r (e' := nI (k + 1)) (nI_1 k) L
  | succ d ih =>
    intro N r fd hN hr h1 h2 h3
    obtain ⟨N, rfl⟩ : ∃ M, N = M + 1 := ⟨N - 1, by omega⟩
    refine br_f (nI_ge (b := 8) (by omega) (by omega)) ?_
    have q := zb_q (n := r) (by omega) fd
    by_cases hbit : bt fd r = true
    · refine br_f (fun z => by rw [q.mp z] at hbit; exact absurd hbit (by decide)) ?_
      have hk1 := hK r (by omega)
      have L := ih N (r + 1) (fd ||| (x_links (bs + r) &&& st)) (by omega) (by omega) (fun i hi => by rw [b_or, h1 i hi]; rfl) (fun r' s hr' hs hf hk2 => by
        rw [b_or, Bool.or_eq_true]
        by_cases e : r' = r
        · right
          rw [hk1 s (by omega), ← e]
          exact hk2
        · exact Or.inl (h2 r' s (by omega) hs hf hk2)) (fun S hS hcl i hi => by
        rw [b_or, Bool.or_eq_true] at hi
        rcases hi with hi | hi
        · exact h3 S hS hcl i hi
        · have hi32 : i < 32 := by
            apply Nat.lt_of_not_le
            intro z
            rw [b_big z] at hi
            exact absurd hi (by decide)
          have := (hk1 i hi32).mp hi
          exact hcl r i (by omega) (hK8 _ _ this) (h3 S hS hcl r hbit) this)
      refine ⟨pk_in (bs + r) 16 (by omega) (nI_add bs r), ?_⟩
      rw [nI_add, nI_clamp (by omega)]
      exact nm_e (nm_r (e' := nI (r + 1)) (nI_1 r) L)
    · have hbf : bt fd r = false := by cases h : bt fd r; rfl; exact absurd h hbit
      refine br_t (q.mpr hbf) ?_
      refine nm_r (e' := nI (r + 1)) (nI_1 r) ?_
      refine ih N (r + 1) fd (by omega) (by omega) h1 (fun r' s hr' hs hf hk2 => ?_) h3
      by_cases e : r' = r
      · rw [e] at hf
        exact absurd (h1 r hf) hbit
      · exact h2 r' s (by omega) hs hf hk2
theorem zx_closure {post : Int32 → Prop} {K : Nat → Nat → Prop} {st : Int32} {bs p : Nat} (hb : bs ≤ 8) (hp8 : p < 8) (hK : ∀ r, r < 8 → ∀ s, s < 32 → (bt (x_links (bs + r) &&& st) s = true ↔ K r s)) (hK8 : ∀ r s, K r s → r < 8 ∧ s < 8)
    (hp : ∀ r, (∀ s, s < 32 → (bt r s = true ↔ gr_R K p s)) → post r) : wpX_closure post (x_pairSlot, x_subjectBase, x_filteredLeft, x_filteredRight, x_scratch, x_allOrders, x_equalMark, x_termCells, x_phase, x_ruleCount, x_pairCount, x_lineCount, x_defined, x_openSide, x_openMissing, x_subjectLength, x_subjectMissing, x_tok, x_end, x_cut, x_length, x_precedences, x_above, x_greater, x_relation, x_arity, x_shape, x_kept, x_bound, x_links, x_lines) (nI p) st (nI bs) := by
  have key : ∀ d N k fd, d < N → k + d = 8 → gr_rk K k (bt (x_links (bs + p) &&& st)) (bt fd) → wX_closure_15 post st (nI bs) x_pairSlot x_subjectBase x_filteredLeft x_filteredRight x_scratch x_allOrders x_equalMark x_termCells x_phase x_ruleCount x_pairCount x_lineCount x_defined x_openSide x_openMissing x_subjectLength x_subjectMissing x_tok x_end x_cut x_length x_precedences x_above x_greater x_relation x_arity x_shape x_kept x_bound x_links x_lines N fd (nI k) := by
    intro d
    induction d with
    | zero =>
      intro N k fd hN hk h
      obtain ⟨N, rfl⟩ : ∃ M, N = M + 1 := ⟨N - 1, by omega⟩
      have ek : k = 8 := by omega
      subst ek
      refine br_t (by decide) (hp fd fun s hs => ?_)
      obtain ⟨g1, g2, g3⟩ := gr_rk8 h
      constructor
      · intro hb
        refine g3 (fun s => gr_R K p s) (fun i hi => ?_) (fun r s hr hs h1 h2 => ?_) s hb
        · have hi32 : i < 32 := by
            apply Nat.lt_of_not_le
            intro z
            rw [b_big z] at hi
            exact absurd hi (by decide)
          exact Relation.TransGen.single ((hK p hp8 i hi32).mp hi)
        · exact Relation.TransGen.tail h1 h2
      · intro hR
        refine gr_least hR (fun s => bt fd s = true) (fun y hy => ?_) (fun x y hx hy => ?_)
        · exact g1 y ((hK p hp8 y (by have := (hK8 _ _ hy).2; omega)).mpr hy)
        · exact g2 x y (hK8 _ _ hy).1 (hK8 _ _ hy).2 hx hy
    | succ d ih =>
      intro N k fd hN hk h
      obtain ⟨N, rfl⟩ : ∃ M, N = M + 1 := ⟨N - 1, by omega⟩
      refine br_f (nI_ge (b := 8) (by omega) (by omega)) ⟨9, ?_⟩
      exact zx_cl25 (f0 := fd) hb (by omega) hK (fun r s h => (hK8 r s h).2) (fun fd' h' => ih N (k + 1) fd' (by omega) (by omega) (gr_rk1 h h')) 8 9 0 fd (by omega) (by omega) (fun _ h => h) (fun r' s hr => by omega) (fun S hS _ i hi => hS i hi)
  refine ⟨pk_in (bs + p) 16 (by omega) (nI_add bs p), ?_⟩
  rw [nI_add, nI_clamp (by omega)]
  exact nm_e ⟨9, key 8 9 0 _ (by omega) (by omega) gr_rk0⟩
/-! components -/
def gc_E (C : Nat → Nat → Prop) (q : Int32) (a b : Nat) : Prop := bt q a = true ∧ bt q b = true ∧ C a b
def gc_V (C : Nat → Nat → Prop) (q : Int32) (p : Nat) (c : Int32) : Prop := ∀ a, a < 32 → (bt c a = true ↔ gr_R (gc_E C q) p a ∧ gr_R (gc_E C q) a p)
theorem gc_uniq {C : Nat → Nat → Prop} {q : Int32} {p : Nat} {c c' : Int32} (h : gc_V C q p c) (h' : gc_V C q p c') : c = c' := by
  apply b_ext
  intro i hi
  have := (h i hi).trans (h' i hi).symm
  cases h1 : bt c i <;> cases h2 : bt c' i <;> simp [h1, h2] at this ⊢
theorem gc_no {C : Nat → Nat → Prop} {q : Int32} {p : Nat} (h : bt q p = false) : gc_V C q p 0 := by
  intro a ha
  refine ⟨fun z => absurd z (by rw [b_0]; decide), fun ⟨z, _⟩ => ?_⟩
  exfalso
  have : ∀ a b, gr_R (gc_E C q) a b → bt q a = true := by
    intro a b hab
    unfold gr_R at hab
    induction hab with
    | single h => exact h.1
    | tail _ _ ih => exact ih
  rw [this _ _ z] at h
  exact absurd h (by decide)
theorem zx_componentIn {post : Int32 → Prop} {C : Nat → Nat → Prop} {q : Int32} {p : Nat} (hp8 : p < 8) (hC8 : ∀ a b, C a b → a < 8 ∧ b < 8)
    (hF : ∀ r, r < 8 → ∀ s, s < 32 → (bt (x_links r) s = true ↔ C r s)) (hB : ∀ r, r < 8 → ∀ s, s < 32 → (bt (x_links (8 + r)) s = true ↔ C s r))
    (hp : ∀ c, gc_V C q p c → post c) : wpX_componentIn post (x_pairSlot, x_subjectBase, x_filteredLeft, x_filteredRight, x_scratch, x_allOrders, x_equalMark, x_termCells, x_phase, x_ruleCount, x_pairCount, x_lineCount, x_defined, x_openSide, x_openMissing, x_subjectLength, x_subjectMissing, x_tok, x_end, x_cut, x_length, x_precedences, x_above, x_greater, x_relation, x_arity, x_shape, x_kept, x_bound, x_links, x_lines) (nI p) q := by
  have hq := zb_q (n := p) (by omega) q
  by_cases hb : bt q p = true
  · refine br_f (fun z => by rw [hq.mp z] at hb; exact absurd hb (by decide)) ?_
    have ef : ∀ s, gr_R (fun r s => r < 8 ∧ C r s ∧ bt q s = true) p s ↔ gr_R (gc_E C q) p s := by
      intro s
      constructor
      · intro h
        have := gr_least h (fun s => bt q s = true ∧ gr_R (gc_E C q) p s) (fun y hy => ⟨hy.2.2, Relation.TransGen.single ⟨hb, hy.2.2, hy.2.1⟩⟩) (fun x y hx hy => ⟨hy.2.2, Relation.TransGen.tail hx.2 ⟨hx.1, hy.2.2, hy.2.1⟩⟩)
        exact this.2
      · intro h
        exact gr_least h (fun s => gr_R (fun r s => r < 8 ∧ C r s ∧ bt q s = true) p s) (fun y hy => Relation.TransGen.single ⟨(hC8 _ _ hy.2.2).1, hy.2.2, hy.2.1⟩) (fun x y hx hy => Relation.TransGen.tail hx ⟨(hC8 _ _ hy.2.2).1, hy.2.2, hy.2.1⟩)
    have eb : ∀ s, gr_R (fun r s => r < 8 ∧ C s r ∧ bt q s = true) p s ↔ gr_R (gc_E C q) s p := by
      intro s
      constructor
      · intro h
        have := gr_least h (fun s => bt q s = true ∧ gr_R (gc_E C q) s p) (fun y hy => ⟨hy.2.2, Relation.TransGen.single ⟨hy.2.2, hb, hy.2.1⟩⟩) (fun x y hx hy => ⟨hy.2.2, Relation.TransGen.trans (Relation.TransGen.single ⟨hy.2.2, hx.1, hy.2.1⟩) hx.2⟩)
        exact this.2
      · intro h
        refine gr_least (gr_flip (E := fun x y => gc_E C q y x) h) (fun s => gr_R (fun r s => r < 8 ∧ C s r ∧ bt q s = true) p s) (fun y hy => Relation.TransGen.single ⟨(hC8 _ _ hy.2.2).2, hy.2.2, hy.1⟩) (fun x y hx hy => Relation.TransGen.tail hx ⟨(hC8 _ _ hy.2.2).2, hy.2.2, hy.1⟩)
    refine zx_closure (bs := 0) (K := fun r s => r < 8 ∧ C r s ∧ bt q s = true) (by omega) hp8 (fun r hr s hs => ?_) (fun r s h => hC8 r s h.2.1) (fun r1 h1 => ?_)
    · rw [Nat.zero_add, b_and, Bool.and_eq_true, hF r hr s hs]
      exact ⟨fun z => ⟨hr, z⟩, fun z => z.2⟩
    · refine zx_closure (bs := 8) (K := fun r s => r < 8 ∧ C s r ∧ bt q s = true) (by omega) hp8 (fun r hr s hs => ?_) (fun r s h => ⟨(hC8 s r h.2.1).2, (hC8 s r h.2.1).1⟩) (fun r2 h2 => ?_)
      · rw [b_and, Bool.and_eq_true, hB r hr s hs]
        exact ⟨fun z => ⟨hr, z⟩, fun z => z.2⟩
      · refine hp _ fun a ha => ?_
        rw [b_and, Bool.and_eq_true, h1 a ha, h2 a ha, ef, eb]
  · have hbf : bt q p = false := by cases h : bt q p; rfl; exact absurd h hb
    exact br_t (hq.mpr hbf) (hp 0 (gc_no hbf))
/-! the reference's component -/
def gw_M (pt : Nat → Nat) (x y : Nat) : Prop := pt (x * 8 + y) = 1
def gw_I (M0 : Nat → Nat → Prop) (k a b : Nat) (pt : Nat → Nat) : Prop := (∀ j, pt j < 2) ∧ ∀ x y, x < 8 → y < 8 → (gw_M pt x y ↔ M0 x y ∨ ((x < a ∨ (x = a ∧ y < b)) ∧ M0 x k ∧ M0 k y))
theorem gw_rk {M0 : Nat → Nat → Prop} {k a b : Nat} {pt : Nat → Nat} (h : gw_I M0 k a b pt) (hk : k < 8) {x : Nat} (hx : x < 8) : gw_M pt x k ↔ M0 x k := by
  rw [h.2 x k hx hk]
  exact ⟨fun z => z.elim id (fun z => z.2.1), Or.inl⟩
theorem gw_kr {M0 : Nat → Nat → Prop} {k a b : Nat} {pt : Nat → Nat} (h : gw_I M0 k a b pt) (hk : k < 8) {y : Nat} (hy : y < 8) : gw_M pt k y ↔ M0 k y := by
  rw [h.2 k y hk hy]
  exact ⟨fun z => z.elim id (fun z => z.2.2), Or.inl⟩
theorem gw_no {M0 : Nat → Nat → Prop} {k a b : Nat} {pt : Nat → Nat} (h : gw_I M0 k a b pt) (hc : ¬ (M0 a k ∧ M0 k b)) : gw_I M0 k a (b + 1) pt := by
  refine ⟨h.1, fun x y hx hy => ?_⟩
  rw [h.2 x y hx hy]
  constructor
  · rintro (z | ⟨z1, z2⟩)
    · exact Or.inl z
    · exact Or.inr ⟨by omega, z2⟩
  · rintro (z | ⟨z1, z2⟩)
    · exact Or.inl z
    · by_cases e : x = a ∧ y = b
      · rw [e.1, e.2] at z2
        exact absurd z2 hc
      · exact Or.inr ⟨by omega, z2⟩
theorem gw_yes {M0 : Nat → Nat → Prop} {k a b : Nat} {pt : Nat → Nat} (h : gw_I M0 k a b pt) (ha : a < 8) (hb : b < 8) (hc : M0 a k ∧ M0 k b) : gw_I M0 k a (b + 1) (na_u pt (a * 8 + b) 1) := by
  refine ⟨fun j => by unfold na_u; split; omega; exact h.1 j, fun x y hx hy => ?_⟩
  by_cases e : x = a ∧ y = b
  · obtain ⟨e1, e2⟩ := e
    subst e1
    subst e2
    unfold gw_M
    rw [na_us]
    exact ⟨fun _ => Or.inr ⟨by omega, hc⟩, fun _ => rfl⟩
  · have := h.2 x y hx hy
    unfold gw_M at this ⊢
    rw [na_un (by omega), this]
    constructor
    · rintro (z | ⟨z1, z2⟩)
      · exact Or.inl z
      · exact Or.inr ⟨by omega, z2⟩
    · rintro (z | ⟨z1, z2⟩)
      · exact Or.inl z
      · exact Or.inr ⟨by omega, z2⟩
theorem zy_c107 {post : Int32 → SY → Prop} {J88 J97 : Int32 → (Nat → Int32) → (Nat → Int32) → (Nat → Int32) → (Nat → Int32) → (Nat → Int32) → (Nat → Int32) → (Nat → Int32) → (Nat → Int32) → (Nat → Int32) → (Nat → Int32) → (Nat → Int32) → (Nat → Int32) → Prop} {x1 : Int32} {M0 : Nat → Nat → Prop} {k a : Nat} (hk : k < 8) (ha : a < 8)
    (hJ : ∀ pt, gw_I M0 k a 8 pt → J97 (nI (a + 1)) y_m y_ar y_len y_pairAt y_rec y_digit y_level y_bind y_hide y_gt y_fit (na_F pt)) :
    ∀ d N b pt, d < N → b + d = 8 → gw_I M0 k a b pt → wY_componentIn_107 post J88 J97 x1 (nI k) (nI a) y_cap y_phase y_rules y_pairs y_lines y_size N (nI b) y_m y_ar y_len y_pairAt y_rec y_digit y_level y_bind y_hide y_gt y_fit (na_F pt) := by
  intro d
  induction d with
  | zero =>
    intro N b pt hN hb h
    obtain ⟨N, rfl⟩ : ∃ M, N = M + 1 := ⟨N - 1, by omega⟩
    have eb : b = 8 := by omega
    subst eb
    have L := hJ pt h
    simp (disch := omega) only [wY_componentIn_107, li_0, li_1, li_2, li_3, li_4, li_5, li_6, li_7, li_8, li_11, li_15, li_16, li_24, li_32, li_112, li_144, li_152, li_160, li_192, li_240, li_255, li_256, li_272, li_280, li_288, li_1295, li_1296, nI_add, pk_mul, pk_sub, ni_m1, nI_clamp, ni_in, nI_leI, nI_ltI, nI_eq, forall_eq, na_at, na_upd, Nat.zero_add, Nat.add_zero]
    exact br_t (by omega) L
  | succ d ih =>
    intro N b pt hN hb h
    obtain ⟨N, rfl⟩ : ∃ M, N = M + 1 := ⟨N - 1, by omega⟩
    have p1 := h.1 (a * 8 + k)
    have p2 := h.1 (k * 8 + b)
    have r1 := gw_rk h hk ha
    have r2 := gw_kr h hk (show b < 8 by omega)
    unfold gw_M at r1 r2
    have Ln := fun hc => ih N (b + 1) pt (by omega) (by omega) (gw_no h hc)
    have Ly := fun hc => ih N (b + 1) _ (by omega) (by omega) (gw_yes h ha (by omega) hc)
    simp (disch := omega) only [wY_componentIn_107, li_0, li_1, li_2, li_3, li_4, li_5, li_6, li_7, li_8, li_11, li_15, li_16, li_24, li_32, li_112, li_144, li_152, li_160, li_192, li_240, li_255, li_256, li_272, li_280, li_288, li_1295, li_1296, nI_add, pk_mul, pk_sub, ni_m1, nI_clamp, ni_in, nI_leI, nI_ltI, nI_eq, forall_eq, na_at, na_upd, Nat.zero_add, Nat.add_zero, ni_b1]
    refine br_f (by omega) ⟨by omega, br_c (fun q => Ln fun z => ?_) (fun q => ⟨by omega, br_c (fun q2 => Ln fun z => ?_) (fun q2 => ⟨by omega, Ly ⟨r1.mp (by omega), r2.mp (by omega)⟩⟩)⟩)⟩
    · have := r1.mpr z.1; omega
    · have := r2.mpr z.2; omega
theorem zy_c97 {post : Int32 → SY → Prop} {J88 : Int32 → (Nat → Int32) → (Nat → Int32) → (Nat → Int32) → (Nat → Int32) → (Nat → Int32) → (Nat → Int32) → (Nat → Int32) → (Nat → Int32) → (Nat → Int32) → (Nat → Int32) → (Nat → Int32) → (Nat → Int32) → Prop} {x1 : Int32} {M0 : Nat → Nat → Prop} {k : Nat} (hk : k < 8)
    (hJ : ∀ pt, gw_I M0 k 8 0 pt → J88 (nI (k + 1)) y_m y_ar y_len y_pairAt y_rec y_digit y_level y_bind y_hide y_gt y_fit (na_F pt)) :
    ∀ d N a pt, d < N → a + d = 8 → gw_I M0 k a 0 pt → wY_componentIn_97 post J88 x1 (nI k) y_cap y_phase y_rules y_pairs y_lines y_size N (nI a) y_m y_ar y_len y_pairAt y_rec y_digit y_level y_bind y_hide y_gt y_fit (na_F pt) := by
  intro d
  induction d with
  | zero =>
    intro N a pt hN ha h
    obtain ⟨N, rfl⟩ : ∃ M, N = M + 1 := ⟨N - 1, by omega⟩
    have ea : a = 8 := by omega
    subst ea
    have L := hJ pt h
    simp (disch := omega) only [wY_componentIn_97, li_0, li_1, li_2, li_3, li_4, li_5, li_6, li_7, li_8, li_11, li_15, li_16, li_24, li_32, li_112, li_144, li_152, li_160, li_192, li_240, li_255, li_256, li_272, li_280, li_288, li_1295, li_1296, nI_add, pk_mul, pk_sub, ni_m1, nI_clamp, ni_in, nI_leI, nI_ltI, nI_eq, forall_eq, na_at, na_upd, Nat.zero_add, Nat.add_zero]
    exact br_t (by omega) L
  | succ d ih =>
    intro N a pt hN ha h
    obtain ⟨N, rfl⟩ : ∃ M, N = M + 1 := ⟨N - 1, by omega⟩
    refine br_f (nI_ge (b := 8) (by omega) (by omega)) ⟨9, ?_⟩
    refine zy_c107 hk (by omega) (fun pt' h' => ih N (a + 1) pt' (by omega) (by omega) ⟨h'.1, fun x y hx hy => ?_⟩) 8 9 0 pt (by omega) (by omega) h
    rw [h'.2 x y hx hy]
    constructor
    · rintro (z | ⟨z1, z2⟩)
      · exact Or.inl z
      · exact Or.inr ⟨by omega, z2⟩
    · rintro (z | ⟨z1, z2⟩)
      · exact Or.inl z
      · exact Or.inr ⟨by omega, z2⟩
theorem zy_c88 {post : Int32 → SY → Prop} {C : Nat → Nat → Prop} {q : Int32} {p : Nat} (hp8 : p < 8) (hC8 : ∀ a b, C a b → a < 8 ∧ b < 8)
    (hp : ∀ c pt, gc_V C q p c → (∀ j, pt j < 2) → post c (y_cap, y_phase, y_rules, y_pairs, y_lines, y_size, y_m, y_ar, y_len, y_pairAt, y_rec, y_digit, y_level, y_bind, y_hide, y_gt, y_fit, na_F pt)) :
    ∀ d N k pt, d < N → k + d = 8 → (∀ j, pt j < 2) → (∀ a b, gc_E C q a b → gw_M pt a b) → (∀ a b, a < 8 → b < 8 → gw_M pt a b → gr_R (gc_E C q) a b) → gr_W (gw_M pt) k →
      wY_componentIn_88 post (nI p) y_cap y_phase y_rules y_pairs y_lines y_size N (nI k) y_m y_ar y_len y_pairAt y_rec y_digit y_level y_bind y_hide y_gt y_fit (na_F pt) := by
  intro d
  induction d with
  | zero =>
    intro N k pt hN hk hpt h1 h2 h3
    obtain ⟨N, rfl⟩ : ∃ M, N = M + 1 := ⟨N - 1, by omega⟩
    have ek : k = 8 := by omega
    subst ek
    refine br_t (by decide) ?_
    have eW : ∀ a b, a < 8 → b < 8 → (gw_M pt a b ↔ gr_R (gc_E C q) a b) := fun a b ha hb => gr_Wend (E := gc_E C q) (fun a b h => hC8 a b h.2.2) h1 h2 h3 ha hb
    have gr8 : ∀ a b, gr_R (gc_E C q) a b → a < 8 ∧ b < 8 := by
      intro a b hab
      unfold gr_R at hab
      induction hab with
      | single h => exact hC8 _ _ h.2.2
      | tail _ h ih => exact ⟨ih.1, (hC8 _ _ h.2.2).2⟩
    have key : ∀ d N a st, d < N → a + d = 8 → (∀ s, s < 32 → (bt st s = true ↔ s < a ∧ gr_R (gc_E C q) p s ∧ gr_R (gc_E C q) s p)) → wY_componentIn_181 post (nI p) y_cap y_phase y_rules y_pairs y_lines y_size y_m y_ar y_len y_pairAt y_rec y_digit y_level y_bind y_hide y_gt y_fit (na_F pt) N st (nI a) := by
      intro d
      induction d with
      | zero =>
        intro N a st hN ha h
        obtain ⟨N, rfl⟩ : ∃ M, N = M + 1 := ⟨N - 1, by omega⟩
        refine br_t (nI_le (a := 8) (by omega) (by omega)) (hp st pt (fun s hs => ?_) hpt)
        rw [h s hs]
        exact ⟨fun z => z.2, fun z => ⟨by have := (gr8 _ _ z.1).2; omega, z⟩⟩
      | succ d ih =>
        intro N a st hN ha h
        obtain ⟨N, rfl⟩ : ∃ M, N = M + 1 := ⟨N - 1, by omega⟩
        have p1 := hpt (p * 8 + a)
        have p2 := hpt (a * 8 + p)
        have e1 := eW p a hp8 (by omega)
        have e2 := eW a p (by omega) hp8
        unfold gw_M at e1 e2
        have Ln : ¬ (gr_R (gc_E C q) p a ∧ gr_R (gc_E C q) a p) → _ := fun hc => ih N (a + 1) st (by omega) (by omega) (fun s hs => by
          rw [h s hs]
          constructor
          · rintro ⟨z1, z2⟩; exact ⟨by omega, z2⟩
          · rintro ⟨z1, z2⟩
            refine ⟨?_, z2⟩
            by_cases e : s = a
            · rw [e] at z2; exact absurd z2 hc
            · omega)
        have Ly : (gr_R (gc_E C q) p a ∧ gr_R (gc_E C q) a p) → _ := fun hc => ih N (a + 1) (st ||| (nI 1 <<< (nI a &&& 31))) (by omega) (by omega) (fun s hs => by
          rw [b_or, zb_one (by omega) hs, Bool.or_eq_true, h s hs]
          constructor
          · rintro (⟨z1, z2⟩ | z)
            · exact ⟨by omega, z2⟩
            · have := of_decide_eq_true z
              rw [this]
              exact ⟨by omega, hc⟩
          · rintro ⟨z1, z2⟩
            by_cases e : s = a
            · exact Or.inr (decide_eq_true e)
            · exact Or.inl ⟨by omega, z2⟩)
        simp (disch := omega) only [wY_componentIn_181, li_0, li_1, li_2, li_3, li_4, li_5, li_6, li_7, li_8, li_11, li_15, li_16, li_24, li_32, li_112, li_144, li_152, li_160, li_192, li_240, li_255, li_256, li_272, li_280, li_288, li_1295, li_1296, nI_add, pk_mul, pk_sub, ni_m1, nI_clamp, ni_in, nI_leI, nI_ltI, nI_eq, forall_eq, na_at, na_upd, Nat.zero_add, Nat.add_zero]
        refine br_f (by omega) ⟨by omega, br_c (fun z => Ln fun w => ?_) (fun z => ⟨by omega, br_c (fun z2 => Ln fun w => ?_) (fun z2 => Ly ⟨e1.mp (by omega), e2.mp (by omega)⟩)⟩)⟩
        · have := e1.mpr w.1; omega
        · have := e2.mpr w.2; omega
    exact ⟨9, key 8 9 0 (nI 0) (by omega) (by omega) (fun s hs => ⟨fun z => absurd z (by rw [zb_0]; decide), fun z => by omega⟩)⟩
  | succ d ih =>
    intro N k pt hN hk hpt h1 h2 h3
    obtain ⟨N, rfl⟩ : ∃ M, N = M + 1 := ⟨N - 1, by omega⟩
    refine br_f (nI_ge (b := 8) (by omega) (by omega)) ⟨9, ?_⟩
    refine zy_c97 (M0 := gw_M pt) (by omega) (fun pt' h' => ?_) 8 9 0 pt (by omega) (by omega) ⟨hpt, fun x y hx hy => ⟨Or.inl, fun z => z.elim id (fun z => by omega)⟩⟩
    have e : ∀ a b, a < 8 → b < 8 → (gw_M pt' a b ↔ gw_M pt a b ∨ (gw_M pt a k ∧ gw_M pt k b)) := fun a b ha hb => (h'.2 a b ha hb).trans ⟨fun z => z.imp id (fun z => z.2), fun z => z.imp id (fun z => ⟨Or.inl ha, z⟩)⟩
    refine ih N (k + 1) pt' (by omega) (by omega) h'.1 (fun a b hab => ?_) (fun a b ha hb hab => ?_) (gr_W1 (by omega) h3 e)
    · have := hC8 _ _ hab.2.2
      exact (e a b this.1 this.2).mpr (Or.inl (h1 a b hab))
    · rcases (e a b ha hb).mp hab with z | z
      · exact h2 a b ha hb z
      · exact Relation.TransGen.trans (h2 a k ha (by omega) z.1) (h2 k b (by omega) hb z.2)
theorem zy_componentIn {post : Int32 → SY → Prop} {C : Nat → Nat → Prop} {q : Int32} {p P : Nat} {ft pt : Nat → Nat} (hp8 : p < 8) (hP : P ≤ 8) (hC8 : ∀ a b, C a b → a < P ∧ b < P) (hqP : ∀ a, bt q a = true → a < P)
    (hft : ∀ k, ft k < 2) (hpt : ∀ k, pt k < 2)
    (hE : ∀ (a b : Nat) (ft pt : Nat → Nat) (post' : Int32 → SY → Prop), a < P → b < P → (∀ k, ft k < 2) → (∀ ft', (∀ k, ft' k < 2) → (C a b → post' 1 (y_cap, y_phase, y_rules, y_pairs, y_lines, y_size, y_m, y_ar, y_len, y_pairAt, y_rec, y_digit, y_level, y_bind, y_hide, y_gt, na_F ft', na_F pt)) ∧ (¬ C a b → post' 0 (y_cap, y_phase, y_rules, y_pairs, y_lines, y_size, y_m, y_ar, y_len, y_pairAt, y_rec, y_digit, y_level, y_bind, y_hide, y_gt, na_F ft', na_F pt))) → wpY_edge post' (y_cap, y_phase, y_rules, y_pairs, y_lines, y_size, y_m, y_ar, y_len, y_pairAt, y_rec, y_digit, y_level, y_bind, y_hide, y_gt, na_F ft, na_F pt) (nI a) (nI b))
    (hp : ∀ c ft pt, gc_V C q p c → (∀ k, ft k < 2) → (∀ k, pt k < 2) → post c (y_cap, y_phase, y_rules, y_pairs, y_lines, y_size, y_m, y_ar, y_len, y_pairAt, y_rec, y_digit, y_level, y_bind, y_hide, y_gt, na_F ft, na_F pt)) : wpY_componentIn post (y_cap, y_phase, y_rules, y_pairs, y_lines, y_size, y_m, y_ar, y_len, y_pairAt, y_rec, y_digit, y_level, y_bind, y_hide, y_gt, na_F ft, na_F pt) (nI p) q := by
  have hq := zb_q (n := p) (by omega) q
  by_cases hb : bt q p = true
  · refine br_f (fun z => by rw [hq.mp z] at hb; exact absurd hb (by decide)) ?_
    -- row a, column b
    have k12 : ∀ d N a ft pt, d < N → a + d = 8 → (∀ k, ft k < 2) → (∀ k, pt k < 2) → (∀ x y, x < a → y < 8 → (gw_M pt x y ↔ gc_E C q x y)) → wY_componentIn_12 post (nI p) q N (nI a) y_cap y_phase y_rules y_pairs y_lines y_size y_m y_ar y_len y_pairAt y_rec y_digit y_level y_bind y_hide y_gt (na_F ft) (na_F pt) := by
      intro d
      induction d with
      | zero =>
        intro N a ft pt hN ha hft hpt h
        obtain ⟨N, rfl⟩ : ∃ M, N = M + 1 := ⟨N - 1, by omega⟩
        have ea : a = 8 := by omega
        subst ea
        refine br_t (by decide) ⟨9, ?_⟩
        exact zy_c88 (C := C) (q := q) hp8 (fun a b h => by have := hC8 a b h; omega) (fun c pt' h1 h2 => hp c ft pt' h1 hft h2) 8 9 0 pt (by omega) (by omega) hpt (fun a b hab => (h a b (by have := hC8 _ _ hab.2.2; omega) (by have := hC8 _ _ hab.2.2; omega)).mpr hab) (fun a b ha hb hab => Relation.TransGen.single ((h a b ha hb).mp hab)) (fun a b c _ _ hc => by omega)
      | succ d ih =>
        intro N a ft pt hN ha hft hpt h
        obtain ⟨N, rfl⟩ : ∃ M, N = M + 1 := ⟨N - 1, by omega⟩
        refine br_f (nI_ge (b := 8) (by omega) (by omega)) ⟨9, ?_⟩
        have k21 : ∀ d N' b ft pt, d < N' → b + d = 8 → (∀ k, ft k < 2) → (∀ k, pt k < 2) → (∀ x y, (x < a ∧ y < 8) ∨ (x = a ∧ y < b) → (gw_M pt x y ↔ gc_E C q x y)) → wY_componentIn_21 post (wY_componentIn_12 post (nI p) q N) (nI p) q (nI a) N' (nI b) y_cap y_phase y_rules y_pairs y_lines y_size y_m y_ar y_len y_pairAt y_rec y_digit y_level y_bind y_hide y_gt (na_F ft) (na_F pt) := by
          intro d
          induction d with
          | zero =>
            intro N' b ft pt hN' hb8 hft hpt h
            obtain ⟨N', rfl⟩ : ∃ M, N' = M + 1 := ⟨N' - 1, by omega⟩
            refine br_t (nI_le (a := 8) (by omega) (by omega)) ?_
            refine nm_r (e' := nI (a + 1)) (nI_1 a) ?_
            exact ih N (a + 1) ft pt (by omega) (by omega) hft hpt (fun x y hx hy => h x y (by omega))
          | succ d ih2 =>
            intro N' b ft pt hN' hb8 hft hpt h
            obtain ⟨N', rfl⟩ : ∃ M, N' = M + 1 := ⟨N' - 1, by omega⟩
            have L : ∀ v ft', v < 2 → (∀ k, ft' k < 2) → (v = 1 ↔ gc_E C q a b) → wY_componentIn_21 post (wY_componentIn_12 post (nI p) q N) (nI p) q (nI a) N' (nI (b + 1)) y_cap y_phase y_rules y_pairs y_lines y_size y_m y_ar y_len y_pairAt y_rec y_digit y_level y_bind y_hide y_gt (na_F ft') (na_F (na_u pt (a * 8 + b) v)) := by
              intro v ft' hv hft' hve
              refine ih2 N' (b + 1) ft' _ (by omega) (by omega) hft' (fun k => by unfold na_u; split; exact hv; exact hpt k) (fun x y hxy => ?_)
              unfold gw_M
              by_cases e : x = a ∧ y = b
              · rw [e.1, e.2, na_us]
                exact hve
              · rw [na_un (by omega)]
                exact h x y (by omega)
            have qa := zb_q1 (n := a) (by omega) q
            have qb := zb_q1 (n := b) (by omega) q
            refine br_f (nI_ge (b := 8) (by omega) (by omega)) ?_
            have ix : vp_in (nI a * 8 + nI b) 64 := pk_in (a * 8 + b) 64 (by omega) (by rw [← nI_add, ← pk_mul]; rfl)
            have cl : (nI a * 8 + nI b).toNatClampNeg = a * 8 + b := pk_cl (a * 8 + b) (by rw [← nI_add, ← pk_mul]; rfl)
            by_cases hba : bt q a = true
            · refine br_t (qa.mpr hba) ?_
              by_cases hbb : bt q b = true
              · refine br_t (qb.mpr hbb) ?_
                refine hE a b ft pt _ (hqP a hba) (hqP b hbb) hft (fun ft' hft' => ⟨fun hc => br_f (by decide) ⟨ix, ?_⟩, fun hc => br_t (by decide) ⟨ix, ?_⟩⟩)
                · rw [cl, show vp_nar .boolean 1 = nI 1 from rfl, na_upd]
                  exact nm_e (nm_r (e' := nI (b + 1)) (nI_1 b) (L 1 ft' (by omega) hft' ⟨fun _ => ⟨hba, hbb, hc⟩, fun _ => rfl⟩))
                · rw [cl, show vp_nar .boolean 0 = nI 0 from rfl, na_upd]
                  exact nm_e (nm_r (e' := nI (b + 1)) (nI_1 b) (L 0 ft' (by omega) hft' ⟨fun z => by omega, fun z => absurd z.2.2 hc⟩))
              · refine br_f (fun z => hbb (qb.mp z)) ⟨ix, ?_⟩
                rw [cl, show vp_nar .boolean 0 = nI 0 from rfl, na_upd]
                exact nm_e (nm_r (e' := nI (b + 1)) (nI_1 b) (L 0 ft (by omega) hft ⟨fun z => by omega, fun z => absurd z.2.1 hbb⟩))
            · refine br_f (fun z => hba (qa.mp z)) ⟨ix, ?_⟩
              rw [cl, show vp_nar .boolean 0 = nI 0 from rfl, na_upd]
              exact nm_e (nm_r (e' := nI (b + 1)) (nI_1 b) (L 0 ft (by omega) hft ⟨fun z => by omega, fun z => absurd z.1 hba⟩))
        exact k21 8 9 0 ft pt (by omega) (by omega) hft hpt (fun x y hxy => h x y (by omega) (by omega))
    exact ⟨9, k12 8 9 0 ft pt (by omega) (by omega) hft hpt (fun x y hx => by omega)⟩
  · have hbf : bt q p = false := by cases h : bt q p; rfl; exact absurd h hb
    exact br_t (hq.mpr hbf) (hp 0 ft pt (gc_no hbf) hft hpt)
end
end
section
section
variable {x_pairSlot x_subjectBase x_filteredLeft x_filteredRight x_scratch x_allOrders x_equalMark x_termCells x_phase x_ruleCount x_pairCount x_lineCount x_defined x_openSide x_openMissing x_subjectLength x_subjectMissing : Int32} {x_tok x_end x_cut x_length x_precedences x_above x_greater x_relation x_arity x_shape x_kept x_bound x_links x_lines : Nat → Int32}
/-! matching (component) -/
def mx_b (b : Nat → Nat) (v : Nat) : Int32 := if b v = 0 then -1 else nI (239 + b v)
/-- the subject: its cells S, N of them live, complete, with the ends in en -/
def mx_S (ar T en S : Nat → Nat) (N : Nat) : Prop :=
  (∀ k, T k < 8) ∧ (∀ i, i < 32 → T (240 + i) = S i) ∧ N ≤ 32 ∧ tx_T ar (tx_t S 0 N) ∧ ∀ j, j < N → en (240 + j) = 240 + (j + tx_z ar S j)
theorem mx_t {T S : Nat → Nat} (h : ∀ i, i < 32 → T (240 + i) = S i) {u n : Nat} (hu : u + n ≤ 32) : tx_t T (240 + u) n = tx_t S u n :=
  tx_congr fun i hi => by rw [Nat.add_assoc]; exact h _ (by omega)
theorem zx_m26 {post : Int32 → SX → Prop} {ar T en S : Nat → Nat} {Nn fr n : Nat} (hA : fd_A ar) (C : mx_S ar T en S Nn) (hf : fr + n ≤ 240) (ef : en fr = fr + n) :
    ∀ d N i j b bd m ns, d < N → i + d = n → tx_M ar (tx_t T (fr + i) d) m 0 → tx_M ar (tx_t S j ns) m 0 → j + ns ≤ Nn → mt_B ar S Nn b → (∀ v, 4 ≤ v → v < 8 → bd v = mx_b b v) →
      (∀ b' bd', mt_m ar S (tx_t T (fr + i) d) j b = some b' → (∀ v, 4 ≤ v → v < 8 → bd' v = mx_b b' v) → post 1 (x_pairSlot, x_subjectBase, x_filteredLeft, x_filteredRight, x_scratch, x_allOrders, x_equalMark, x_termCells, x_phase, x_ruleCount, x_pairCount, x_lineCount, x_defined, x_openSide, x_openMissing, x_subjectLength, x_subjectMissing, na_F T, na_F en, x_cut, x_length, x_precedences, x_above, x_greater, x_relation, x_arity, x_shape, x_kept, bd', x_links, x_lines)) →
      (∀ bd', mt_m ar S (tx_t T (fr + i) d) j b = none → post 0 (x_pairSlot, x_subjectBase, x_filteredLeft, x_filteredRight, x_scratch, x_allOrders, x_equalMark, x_termCells, x_phase, x_ruleCount, x_pairCount, x_lineCount, x_defined, x_openSide, x_openMissing, x_subjectLength, x_subjectMissing, na_F T, na_F en, x_cut, x_length, x_precedences, x_above, x_greater, x_relation, x_arity, x_shape, x_kept, bd', x_links, x_lines)) →
      wX_matches_26 post (nI fr) x_pairSlot x_subjectBase x_filteredLeft x_filteredRight x_scratch x_allOrders x_equalMark x_termCells x_phase x_ruleCount x_pairCount x_lineCount x_defined x_openSide x_openMissing x_subjectLength x_subjectMissing N (nI (240 + j)) (nI (fr + i)) (na_F T) (na_F en) x_cut x_length x_precedences x_above x_greater x_relation x_arity x_shape x_kept bd x_links x_lines := by
  obtain ⟨c1, c2, c3, c4, c5⟩ := C
  intro d
  induction d with
  | zero =>
    intro N i j b bd m ns hN hi hl hS hjn hB hbd h1 h0
    obtain ⟨N, rfl⟩ : ∃ M, N = M + 1 := ⟨N - 1, by omega⟩
    have K := h1 b bd rfl hbd
    simp (disch := omega) only [wX_matches_26, li_0, li_1, li_2, li_3, li_4, li_5, li_6, li_7, li_8, li_11, li_15, li_16, li_24, li_32, li_112, li_144, li_152, li_160, li_192, li_240, li_255, li_256, li_272, li_280, li_288, li_1295, li_1296, nI_add, pk_mul, pk_sub, ni_m1, nI_clamp, ni_in, nI_leI, nI_ltI, nI_eq, forall_eq, na_at, na_upd, Nat.zero_add, Nat.add_zero, ef]
    exact ⟨by omega, br_t (by omega) K⟩
  | succ d ih =>
    intro N i j b bd m ns hN hi hl hS hjn hB hbd h1 h0
    obtain ⟨N, rfl⟩ : ∃ M, N = M + 1 := ⟨N - 1, by omega⟩
    have t1 := c1 (fr + i)
    obtain ⟨m0, em, hl⟩ := hl
    subst em
    have hp : 0 < ns := by
      have := tx_M_le _ _ hS
      rw [tx_len] at this
      omega
    obtain ⟨ns', rfl⟩ : ∃ e, ns = e + 1 := ⟨ns - 1, by omega⟩
    obtain ⟨z1, z2, z3⟩ := tx_subz (j := 0) hS (by omega) (by omega)
    rw [Nat.add_zero] at z1 z2 z3
    have t2 : S j < 8 := by rw [← c2 j (by omega)]; exact c1 _
    have ej := c5 j (by omega)
    have eS := c2 j (by omega)
    -- the equation of one step
    have em : mt_m ar S (tx_t T (fr + i) (d + 1)) j b = if T (fr + i) < 4 then (if S j = T (fr + i) then mt_m ar S (tx_t T (fr + i + 1) d) (j + 1) b else none)
      else if b (T (fr + i)) = 0 then mt_m ar S (tx_t T (fr + i + 1) d) (j + tx_z ar S j) (na_u b (T (fr + i)) (j + 1))
      else if tx_t S (b (T (fr + i)) - 1) (tx_z ar S (b (T (fr + i)) - 1)) = tx_t S j (tx_z ar S (b (T (fr + i)) - 1)) then mt_m ar S (tx_t T (fr + i + 1) d) (j + tx_z ar S j) b else none := rfl
    rw [em] at h1 h0
    by_cases ht : T (fr + i) < 4
    · rw [if_pos ht] at h1 h0
      obtain ⟨m1, e1, hS'⟩ := hS
      have e01 : m1 = m0 := by omega
      subst e01
      simp (disch := omega) only [wX_matches_26, li_0, li_1, li_2, li_3, li_4, li_5, li_6, li_7, li_8, li_11, li_15, li_16, li_24, li_32, li_112, li_144, li_152, li_160, li_192, li_240, li_255, li_256, li_272, li_280, li_288, li_1295, li_1296, nI_add, pk_mul, pk_sub, ni_m1, nI_clamp, ni_in, nI_leI, nI_ltI, nI_eq, forall_eq, na_at, na_upd, Nat.zero_add, Nat.add_zero, ef, eS]
      refine ⟨by omega, br_f (by omega) ⟨by omega, br_f (by omega) ⟨by omega, br_c (fun e => ?_) (fun e => ?_)⟩⟩⟩
      · rw [if_pos e] at h1 h0
        rw [e] at hS'
        exact ih N (i + 1) (j + 1) b bd _ ns' (by omega) (by omega) hl hS' (by omega) hB hbd h1 h0
      · rw [if_neg e] at h0
        exact h0 bd rfl
    · rw [if_neg ht] at h1 h0
      rw [hA.2.2.2.2 _ (by omega), Nat.add_zero] at hl
      have hS2 : tx_M ar (tx_t S (j + tx_z ar S j) (ns' + 1 - tx_z ar S j)) m0 0 := by
        rw [Nat.add_comm m0 1] at hS
        obtain ⟨n1, n2, en1, q1, q2⟩ := tx_sp hS
        have : tx_z ar S j = n1 := tx_z_of q1 (by omega)
        rw [this, show ns' + 1 - n1 = n2 by omega]
        exact q2
      have eb := hbd (T (fr + i)) (by omega) t1
      by_cases hb0 : b (T (fr + i)) = 0
      · rw [if_pos hb0] at h1 h0
        have eb' : bd (T (fr + i)) = -1 := by rw [eb]; exact if_pos hb0
        have K := ih N (i + 1) (j + tx_z ar S j) (na_u b (T (fr + i)) (j + 1)) (upd bd (T (fr + i)) (nI (240 + j))) m0 (ns' + 1 - tx_z ar S j) (by omega) (by omega) hl hS2 (by omega)
          (fun v hv => by
            by_cases e : v = T (fr + i)
            · rw [e, na_us, Nat.add_sub_cancel]
              exact ⟨by omega, z1, by omega⟩
            · rw [na_un e] at hv ⊢
              exact hB v hv)
          (fun v h4 h8 => by
            by_cases e : v = T (fr + i)
            · rw [e, pk_us]
              unfold mx_b
              rw [na_us, if_neg (by omega)]
              congr 1
              omega
            · rw [pk_un e, hbd v h4 h8]
              unfold mx_b
              rw [na_un e]) h1 h0
        have n1 : ¬ nI 0 ≤ (-1 : Int32) := by decide
        simp (disch := omega) only [wX_matches_26, li_0, li_1, li_2, li_3, li_4, li_5, li_6, li_7, li_8, li_11, li_15, li_16, li_24, li_32, li_112, li_144, li_152, li_160, li_192, li_240, li_255, li_256, li_272, li_280, li_288, li_1295, li_1296, nI_add, pk_mul, pk_sub, ni_m1, nI_clamp, ni_in, nI_leI, nI_ltI, nI_eq, forall_eq, na_at, na_upd, Nat.zero_add, Nat.add_zero, ef, eS, eb', ej]
        exact ⟨by omega, br_f (by omega) ⟨by omega, br_t (by omega) ⟨by omega, br_f (by decide) ⟨by omega, by omega, K⟩⟩⟩⟩
      · rw [if_neg hb0] at h1 h0
        obtain ⟨q1, q2, q3⟩ := hB _ hb0
        have eb' : bd (T (fr + i)) = nI (240 + (b (T (fr + i)) - 1)) := by
          rw [eb]
          unfold mx_b
          rw [if_neg hb0]
          congr 1
          omega
        have eb2 := c5 (b (T (fr + i)) - 1) q1
        have zb := tx_T_pos q2
        rw [tx_len] at zb
        simp (disch := omega) only [wX_matches_26, li_0, li_1, li_2, li_3, li_4, li_5, li_6, li_7, li_8, li_11, li_15, li_16, li_24, li_32, li_112, li_144, li_152, li_160, li_192, li_240, li_255, li_256, li_272, li_280, li_288, li_1295, li_1296, nI_add, pk_mul, pk_sub, ni_m1, nI_clamp, ni_in, nI_leI, nI_ltI, nI_eq, forall_eq, na_at, na_upd, Nat.zero_add, Nat.add_zero, ef, eS, eb', ej]
        refine ⟨by omega, br_f (by omega) ⟨by omega, br_t (by omega) ⟨by omega, br_t (by omega) ⟨by omega, ?_⟩⟩⟩⟩
        refine zx_same (q := ar) (n := tx_z ar S (b (T (fr + i)) - 1)) (n' := tx_z ar S j) c1 (by omega) (by omega) (by omega) (by omega) (by omega) (by omega) (by rw [mx_t c2 (by omega)]; exact q2) (by rw [mx_t c2 (by omega)]; exact z1) (fun e => br_f (by decide) ?_) (fun e => br_t (by decide) ?_)
        · have e' : tx_t S (b (T (fr + i)) - 1) (tx_z ar S (b (T (fr + i)) - 1)) = tx_t S j (tx_z ar S (b (T (fr + i)) - 1)) := by
            rw [← mx_t c2 (by omega), e]
            have hz : tx_t T (240 + j) (tx_z ar S (b (T (fr + i)) - 1)) = tx_t S j (tx_z ar S (b (T (fr + i)) - 1)) := by
              have hz1 : tx_T ar (tx_t T (240 + j) (tx_z ar S (b (T (fr + i)) - 1))) := by rw [← e, mx_t c2 (by omega)]; exact q2
              have hz2 : tx_T ar (tx_t T (240 + j) (tx_z ar S j)) := by rw [mx_t c2 (by omega)]; exact z1
              have a1 := tx_z_of hz1 (by omega)
              have a2 := tx_z_of hz2 (by omega)
              exact mx_t c2 (by omega)
            exact hz
          rw [if_pos e'] at h1 h0
          exact ⟨by omega, ih N (i + 1) (j + tx_z ar S j) b bd m0 (ns' + 1 - tx_z ar S j) (by omega) (by omega) hl hS2 (by omega) hB hbd h1 h0⟩
        · have e' : ¬ tx_t S (b (T (fr + i)) - 1) (tx_z ar S (b (T (fr + i)) - 1)) = tx_t S j (tx_z ar S (b (T (fr + i)) - 1)) := by
            intro z
            apply e
            have hz1 : tx_T ar (tx_t S j (tx_z ar S (b (T (fr + i)) - 1))) := by rw [← z]; exact q2
            have a1 := tx_z_of hz1 (by omega)
            have a2 := tx_z_of z1 (by omega)
            rw [mx_t c2 (by omega), mx_t c2 (by omega)]
            exact z
          rw [if_neg e'] at h0
          exact h0 bd rfl
theorem zx_matches {post : Int32 → SX → Prop} {ar T en S : Nat → Nat} {Nn fr n k : Nat} (hA : fd_A ar) (C : mx_S ar T en S Nn) (hf : fr + n ≤ 240) (ef : en fr = fr + n) (hl : tx_T ar (tx_t T fr n)) (hk : k < Nn)
    (h1 : ∀ b' bd', mt_m ar S (tx_t T fr n) k (fun _ => 0) = some b' → (∀ v, 4 ≤ v → v < 8 → bd' v = mx_b b' v) → post 1 (x_pairSlot, x_subjectBase, x_filteredLeft, x_filteredRight, x_scratch, x_allOrders, x_equalMark, x_termCells, x_phase, x_ruleCount, x_pairCount, x_lineCount, x_defined, x_openSide, x_openMissing, x_subjectLength, x_subjectMissing, na_F T, na_F en, x_cut, x_length, x_precedences, x_above, x_greater, x_relation, x_arity, x_shape, x_kept, bd', x_links, x_lines))
    (h0 : ∀ bd', mt_m ar S (tx_t T fr n) k (fun _ => 0) = none → post 0 (x_pairSlot, x_subjectBase, x_filteredLeft, x_filteredRight, x_scratch, x_allOrders, x_equalMark, x_termCells, x_phase, x_ruleCount, x_pairCount, x_lineCount, x_defined, x_openSide, x_openMissing, x_subjectLength, x_subjectMissing, na_F T, na_F en, x_cut, x_length, x_precedences, x_above, x_greater, x_relation, x_arity, x_shape, x_kept, bd', x_links, x_lines)) :
    wpX_matches post (x_pairSlot, x_subjectBase, x_filteredLeft, x_filteredRight, x_scratch, x_allOrders, x_equalMark, x_termCells, x_phase, x_ruleCount, x_pairCount, x_lineCount, x_defined, x_openSide, x_openMissing, x_subjectLength, x_subjectMissing, na_F T, na_F en, x_cut, x_length, x_precedences, x_above, x_greater, x_relation, x_arity, x_shape, x_kept, x_bound, x_links, x_lines) (nI fr) (nI (240 + k)) := by
  have key : ∀ d N v bd, d < N → v + d = 8 → 4 ≤ v → (∀ w, 4 ≤ w → w < v → bd w = -1) → wX_matches_2 post (nI fr) (nI (240 + k)) x_pairSlot x_subjectBase x_filteredLeft x_filteredRight x_scratch x_allOrders x_equalMark x_termCells x_phase x_ruleCount x_pairCount x_lineCount x_defined x_openSide x_openMissing x_subjectLength x_subjectMissing N (nI v) (na_F T) (na_F en) x_cut x_length x_precedences x_above x_greater x_relation x_arity x_shape x_kept bd x_links x_lines := by
    intro d
    induction d with
    | zero =>
      intro N v bd hN hv h4 hb
      obtain ⟨N, rfl⟩ : ∃ M, N = M + 1 := ⟨N - 1, by omega⟩
      refine br_t (nI_le (a := 8) (by omega) (by omega)) ⟨n + 1, ?_⟩
      obtain ⟨z1, z2, z3⟩ := tx_subk C.2.2.2.1 (by have := C.2.2.1; omega) (Nat.zero_le k) (by omega)
      exact zx_m26 hA C hf ef n (n + 1) 0 k (fun _ => 0) bd 1 (tx_z ar S k) (by omega) (by omega) hl z1 (by omega) (fun v hv => absurd rfl hv) (fun w h4 h8 => hb w h4 (by omega)) h1 h0
    | succ d ih =>
      intro N v bd hN hv h4 hb
      obtain ⟨N, rfl⟩ : ∃ M, N = M + 1 := ⟨N - 1, by omega⟩
      refine br_f (nI_ge (b := 8) (by omega) (by omega)) ⟨vp_in_nI (by omega) (by omega), ?_⟩
      rw [nI_clamp (by omega)]
      refine nm_e (nm_r (e' := nI (v + 1)) (nI_1 v) ?_)
      refine ih N (v + 1) _ (by omega) (by omega) (by omega) (fun w hw1 hw2 => ?_)
      by_cases e : w = v
      · rw [e, pk_us]
      · rw [pk_un e]; exact hb w hw1 (by omega)
  exact ⟨5, key 4 5 4 x_bound (by omega) (by omega) (by omega) (fun w h1 h2 => by omega)⟩
/-- the left sides -/
def mx_L (ar T en : Nat → Nat) (R : Nat) (LL : Nat → List Nat) : Prop := R ≤ 6 ∧ ∀ r, r < R → (LL r).length ≤ 8 ∧ tx_t T (r * 16) (LL r).length = LL r ∧ tx_T ar (LL r) ∧ en (r * 16) = r * 16 + (LL r).length
theorem zx_ruleAt {post : Int32 → SX → Prop} {ar T en S : Nat → Nat} {LL : Nat → List Nat} {Nn R k : Nat} (hA : fd_A ar) (C : mx_S ar T en S Nn) (hL : mx_L ar T en R LL) (hk : k < Nn)
    (h1 : ∀ r b' bd', r < R → (∀ r', r' < r → mt_m ar S (LL r') k (fun _ => 0) = none) → mt_m ar S (LL r) k (fun _ => 0) = some b' → (∀ v, 4 ≤ v → v < 8 → bd' v = mx_b b' v) → post (nI r) (x_pairSlot, x_subjectBase, x_filteredLeft, x_filteredRight, x_scratch, x_allOrders, x_equalMark, x_termCells, x_phase, nI R, x_pairCount, x_lineCount, x_defined, x_openSide, x_openMissing, x_subjectLength, x_subjectMissing, na_F T, na_F en, x_cut, x_length, x_precedences, x_above, x_greater, x_relation, x_arity, x_shape, x_kept, bd', x_links, x_lines))
    (h0 : ∀ bd', (∀ r, r < R → mt_m ar S (LL r) k (fun _ => 0) = none) → post (-1) (x_pairSlot, x_subjectBase, x_filteredLeft, x_filteredRight, x_scratch, x_allOrders, x_equalMark, x_termCells, x_phase, nI R, x_pairCount, x_lineCount, x_defined, x_openSide, x_openMissing, x_subjectLength, x_subjectMissing, na_F T, na_F en, x_cut, x_length, x_precedences, x_above, x_greater, x_relation, x_arity, x_shape, x_kept, bd', x_links, x_lines)) :
    wpX_ruleAt post (x_pairSlot, x_subjectBase, x_filteredLeft, x_filteredRight, x_scratch, x_allOrders, x_equalMark, x_termCells, x_phase, nI R, x_pairCount, x_lineCount, x_defined, x_openSide, x_openMissing, x_subjectLength, x_subjectMissing, na_F T, na_F en, x_cut, x_length, x_precedences, x_above, x_greater, x_relation, x_arity, x_shape, x_kept, x_bound, x_links, x_lines) (nI (240 + k)) := by
  obtain ⟨hR, hL⟩ := hL
  have key : ∀ d N r bd, d < N → r + d = R → (∀ r', r' < r → mt_m ar S (LL r') k (fun _ => 0) = none) → wX_ruleAt_2 post (nI (240 + k)) N (nI r) x_pairSlot x_subjectBase x_filteredLeft x_filteredRight x_scratch x_allOrders x_equalMark x_termCells x_phase (nI R) x_pairCount x_lineCount x_defined x_openSide x_openMissing x_subjectLength x_subjectMissing (na_F T) (na_F en) x_cut x_length x_precedences x_above x_greater x_relation x_arity x_shape x_kept bd x_links x_lines := by
    intro d
    induction d with
    | zero =>
      intro N r bd hN hr h
      obtain ⟨N, rfl⟩ : ∃ M, N = M + 1 := ⟨N - 1, by omega⟩
      exact br_t (nI_le (by omega) (by omega)) (h0 bd fun r' hr' => h r' (by omega))
    | succ d ih =>
      intro N r bd hN hr h
      obtain ⟨N, rfl⟩ : ∃ M, N = M + 1 := ⟨N - 1, by omega⟩
      obtain ⟨l1, l2, l3, l4⟩ := hL r (by omega)
      refine br_f (nI_ge (by omega) (by omega)) ?_
      rw [show nI r * 16 = nI (r * 16) from pk_mul r 16]
      refine zx_matches (n := (LL r).length) hA C (by omega) l4 (by rw [l2]; exact l3) hk (fun b' bd' e hb => ?_) (fun bd' e => ?_)
      · rw [l2] at e
        exact br_f (by decide) (h1 r b' bd' (by omega) h e hb)
      · rw [l2] at e
        refine br_t (by decide) ?_
        refine nm_r (e' := nI (r + 1)) (nI_1 r) ?_
        refine ih N (r + 1) bd' (by omega) (by omega) (fun r' hr' => ?_)
        by_cases e2 : r' = r
        · rw [e2]; exact e
        · exact h r' (by omega)
  exact ⟨R + 1, key R (R + 1) 0 x_bound (by omega) (by omega) (fun r' hr' => by omega)⟩
def mt_rd (ar S : Nat → Nat) (LL : Nat → List Nat) (R k : Nat) : Prop := ∃ r, r < R ∧ mt_m ar S (LL r) k (fun _ => 0) ≠ none
def mt_E (ar S : Nat → Nat) (k : Nat) : Nat := k + tx_z ar S k
def mx_i (b : Nat) : Int32 := if b = 0 then -1 else nI (239 + b)
theorem zx_findRedex {post : Int32 → SX → Prop} {ar T en S : Nat → Nat} {LL : Nat → List Nat} {Nn R : Nat} (hA : fd_A ar) (C : mx_S ar T en S Nn) (hL : mx_L ar T en R LL)
    (h1 : ∀ k bd', k < Nn → mt_I (mt_rd ar S LL R) (mt_E ar S) k → (∀ i, i < k → ¬ mt_I (mt_rd ar S LL R) (mt_E ar S) i) → post (nI (240 + k)) (x_pairSlot, x_subjectBase, x_filteredLeft, x_filteredRight, x_scratch, x_allOrders, x_equalMark, x_termCells, x_phase, nI R, x_pairCount, x_lineCount, x_defined, x_openSide, x_openMissing, nI Nn, x_subjectMissing, na_F T, na_F en, x_cut, x_length, x_precedences, x_above, x_greater, x_relation, x_arity, x_shape, x_kept, bd', x_links, x_lines))
    (h0 : ∀ bd', (∀ k, k < Nn → ¬ mt_rd ar S LL R k) → post (-1) (x_pairSlot, x_subjectBase, x_filteredLeft, x_filteredRight, x_scratch, x_allOrders, x_equalMark, x_termCells, x_phase, nI R, x_pairCount, x_lineCount, x_defined, x_openSide, x_openMissing, nI Nn, x_subjectMissing, na_F T, na_F en, x_cut, x_length, x_precedences, x_above, x_greater, x_relation, x_arity, x_shape, x_kept, bd', x_links, x_lines)) :
    wpX_findRedex post (x_pairSlot, x_subjectBase, x_filteredLeft, x_filteredRight, x_scratch, x_allOrders, x_equalMark, x_termCells, x_phase, nI R, x_pairCount, x_lineCount, x_defined, x_openSide, x_openMissing, nI Nn, x_subjectMissing, na_F T, na_F en, x_cut, x_length, x_precedences, x_above, x_greater, x_relation, x_arity, x_shape, x_kept, x_bound, x_links, x_lines) := by
  have c3 := C.2.2.1
  have key : ∀ d N i best bd, d < N → i + d = Nn → mt_sc (mt_rd ar S LL R) (mt_E ar S) best i → wX_findRedex_6 post N (mx_i best) (nI (240 + i)) x_pairSlot x_subjectBase x_filteredLeft x_filteredRight x_scratch x_allOrders x_equalMark x_termCells x_phase (nI R) x_pairCount x_lineCount x_defined x_openSide x_openMissing (nI Nn) x_subjectMissing (na_F T) (na_F en) x_cut x_length x_precedences x_above x_greater x_relation x_arity x_shape x_kept bd x_links x_lines := by
    intro d
    induction d with
    | zero =>
      intro N i best bd hN hi h
      obtain ⟨N, rfl⟩ : ∃ M, N = M + 1 := ⟨N - 1, by omega⟩
      refine br_t ?_ ?_
      · show nI 240 + nI Nn ≤ _
        rw [nI_add]
        exact nI_le (by omega) (by omega)
      · by_cases hb : best = 0
        · have : mx_i best = -1 := if_pos hb
          rw [this]
          exact h0 bd fun k hk => h.1 hb k (by omega)
        · have hbi := (h.2 hb).1
          obtain ⟨z1, z2, z3⟩ := tx_subk C.2.2.2.1 (by omega) (Nat.zero_le (best - 1)) (by omega)
          obtain ⟨g1, g2⟩ := mt_sce h hb (show best - 1 + tx_z ar S (best - 1) ≤ i by omega)
          have e : mx_i best = nI (240 + (best - 1)) := by
            unfold mx_i
            rw [if_neg hb]
            congr 1
            omega
          rw [e]
          exact h1 (best - 1) bd (by omega) g1 g2
    | succ d ih =>
      intro N i best bd hN hi h
      obtain ⟨N, rfl⟩ : ∃ M, N = M + 1 := ⟨N - 1, by omega⟩
      refine br_f ?_ ?_
      · show ¬ nI 240 + nI Nn ≤ _
        rw [nI_add]
        exact nI_ge (by omega) (by omega)
      have look : (best ≠ 0 → i < mt_E ar S (best - 1)) → wX_findRedex_34 post (wX_findRedex_6 post N) (mx_i best) (nI (240 + i)) x_pairSlot x_subjectBase x_filteredLeft x_filteredRight x_scratch x_allOrders x_equalMark x_termCells x_phase (nI R) x_pairCount x_lineCount x_defined x_openSide x_openMissing (nI Nn) x_subjectMissing (na_F T) (na_F en) x_cut x_length x_precedences x_above x_greater x_relation x_arity x_shape x_kept bd x_links x_lines := by
        intro hE
        refine zx_ruleAt hA C hL (show i < Nn by omega) (fun r b' bd' hr _ e _ => ?_) (fun bd' hno => ?_)
        · refine br_f (nI_pos (by have := hL.1; omega)) ?_
          refine nm_r (e' := nI (240 + (i + 1))) (nI_1 _) ?_
          have K := ih N (i + 1) (i + 1) bd' (by omega) (by omega) (mt_scy h hE ⟨r, hr, by rw [e]; exact fun z => nomatch z⟩)
          have e2 : mx_i (i + 1) = nI (240 + i) := by
            unfold mx_i
            rw [if_neg (by omega)]
            congr 1
            omega
          rw [e2] at K
          exact K
        · refine br_t (by decide) ?_
          refine nm_r (e' := nI (240 + (i + 1))) (nI_1 _) ?_
          exact ih N (i + 1) best bd' (by omega) (by omega) (mt_scn h (fun ⟨r, hr, e⟩ => e (hno r hr)))
      by_cases hb : best = 0
      · refine br_t (by rw [show mx_i best = -1 from if_pos hb]; decide) (look fun z => absurd hb z)
      · have hbi := (h.2 hb).1
        have e : mx_i best = nI (240 + (best - 1)) := by
          unfold mx_i
          rw [if_neg hb]
          congr 1
          omega
        have e5 := C.2.2.2.2 (best - 1) (by omega)
        obtain ⟨z1, z2, z3⟩ := tx_subk C.2.2.2.1 (by omega) (Nat.zero_le (best - 1)) (by omega)
        refine br_f (by rw [e]; exact nI_pos (by omega)) ⟨by rw [e]; exact vp_in_nI (by omega) (by omega), ?_⟩
        by_cases hlt : i < mt_E ar S (best - 1)
        · refine br_t ?_ (look fun _ => hlt)
          rw [e, nI_clamp (by omega), na_at, e5]
          unfold mt_E at hlt
          exact nI_lt (by omega) (by omega)
        · refine br_f ?_ ?_
          · rw [e, nI_clamp (by omega), na_at, e5]
            unfold mt_E at hlt
            exact nI_nlt (by omega) (by omega)
          · obtain ⟨g1, g2⟩ := mt_sce h hb (Nat.le_of_not_lt hlt)
            rw [e]
            exact h1 (best - 1) bd (by omega) g1 g2
  exact ⟨Nn + 1, key Nn (Nn + 1) 0 0 x_bound (by omega) (by omega) mt_sc0⟩
end
end
section
section
variable {x_pairSlot x_subjectBase x_filteredLeft x_filteredRight x_scratch x_allOrders x_equalMark x_termCells x_phase x_ruleCount x_pairCount x_lineCount x_defined x_openSide x_openMissing x_subjectLength x_subjectMissing : Int32} {x_tok x_end x_cut x_length x_precedences x_above x_greater x_relation x_arity x_shape x_kept x_bound x_links x_lines : Nat → Int32}
/-- the right side of a rule in its cells -/
def mx_R (ar T en : Nat → Nat) (r : Nat) (rl : List Nat) : Prop := r < 6 ∧ rl.length ≤ 8 ∧ tx_t T (r * 16 + 8) rl.length = rl ∧ tx_T ar rl ∧ en (r * 16 + 8) = r * 16 + 8 + rl.length
/-- bindings for a list of tokens -/
def mx_B (ar S : Nat → Nat) (Nn : Nat) (b : Nat → Nat) (rl : List Nat) : Prop := mt_B ar S Nn b ∧ ∀ v, v ∈ rl → 4 ≤ v → b v ≠ 0
theorem zx_sizeAfter {post : Int32 → Prop} {ar T en S b : Nat → Nat} {Nn r k : Nat} {rl : List Nat} (C : mx_S ar T en S Nn) (hR : mx_R ar T en r rl) (hk : k < Nn) (hB : mx_B ar S Nn b rl) (hbd : ∀ v, 4 ≤ v → v < 8 → x_bound v = mx_b b v)
    (hp : post (nI (Nn - tx_z ar S k + (mt_r ar S b rl).length))) : wpX_sizeAfter post (x_pairSlot, x_subjectBase, x_filteredLeft, x_filteredRight, x_scratch, x_allOrders, x_equalMark, x_termCells, x_phase, x_ruleCount, x_pairCount, x_lineCount, x_defined, x_openSide, x_openMissing, nI Nn, x_subjectMissing, na_F T, na_F en, x_cut, x_length, x_precedences, x_above, x_greater, x_relation, x_arity, x_shape, x_kept, x_bound, x_links, x_lines) (nI (240 + k)) (nI r) := by
  obtain ⟨c1, c2, c3, c4, c5⟩ := C
  obtain ⟨r1, r2, r3, r4, r5⟩ := hR
  obtain ⟨b1, b2⟩ := hB
  have e1 := c5 k hk
  obtain ⟨z1, z2, z3⟩ := tx_subk c4 (by omega) (Nat.zero_le k) (by omega)
  have key : ∀ d N i tot, d < N → i + d = rl.length → tot < 10000 + 32 * i → (∀ v, v ∈ tx_t T (r * 16 + 8 + i) d → 4 ≤ v → b v ≠ 0) → tot + (mt_r ar S b (tx_t T (r * 16 + 8 + i) d)).length = Nn - tx_z ar S k + (mt_r ar S b rl).length →
      wX_sizeAfter_27 post (nI (r * 16 + 8)) x_pairSlot x_subjectBase x_filteredLeft x_filteredRight x_scratch x_allOrders x_equalMark x_termCells x_phase x_ruleCount x_pairCount x_lineCount x_defined x_openSide x_openMissing (nI Nn) x_subjectMissing (na_F T) (na_F en) x_cut x_length x_precedences x_above x_greater x_relation x_arity x_shape x_kept x_bound x_links x_lines N (nI tot) (nI (r * 16 + 8 + i)) := by
    intro d
    induction d with
    | zero =>
      intro N i tot hN hi ht hv h
      obtain ⟨N, rfl⟩ : ∃ M, N = M + 1 := ⟨N - 1, by omega⟩
      have h' : tot = Nn - tx_z ar S k + (mt_r ar S b rl).length := h
      rw [← h'] at hp
      simp (disch := omega) only [wX_sizeAfter_27, li_0, li_1, li_2, li_3, li_4, li_5, li_6, li_7, li_8, li_11, li_15, li_16, li_24, li_32, li_112, li_144, li_152, li_160, li_192, li_240, li_255, li_256, li_272, li_280, li_288, li_1295, li_1296, nI_add, pk_mul, pk_sub, ni_m1, nI_clamp, ni_in, nI_leI, nI_ltI, nI_eq, forall_eq, na_at, na_upd, Nat.zero_add, Nat.add_zero, r5]
      exact ⟨by omega, br_t (by omega) hp⟩
    | succ d ih =>
      intro N i tot hN hi ht hv h
      obtain ⟨N, rfl⟩ : ∃ M, N = M + 1 := ⟨N - 1, by omega⟩
      have t1 := c1 (r * 16 + 8 + i)
      have el : tx_t T (r * 16 + 8 + i) (d + 1) = T (r * 16 + 8 + i) :: tx_t T (r * 16 + 8 + (i + 1)) d := rfl
      rw [el, mt_rlen] at h
      rw [el] at hv
      have hv' := fun v hm => hv v (List.mem_cons_of_mem _ hm)
      by_cases h4 : T (r * 16 + 8 + i) < 4
      · rw [if_pos h4] at h
        have K := ih N (i + 1) (tot + 1) (by omega) (by omega) (by omega) hv' (by omega)
        simp (disch := omega) only [wX_sizeAfter_27, li_0, li_1, li_2, li_3, li_4, li_5, li_6, li_7, li_8, li_11, li_15, li_16, li_24, li_32, li_112, li_144, li_152, li_160, li_192, li_240, li_255, li_256, li_272, li_280, li_288, li_1295, li_1296, nI_add, pk_mul, pk_sub, ni_m1, nI_clamp, ni_in, nI_leI, nI_ltI, nI_eq, forall_eq, na_at, na_upd, Nat.zero_add, Nat.add_zero, r5]
        exact ⟨by omega, br_f (by omega) ⟨by omega, br_f (by omega) K⟩⟩
      · rw [if_neg h4] at h
        have hb := hv _ (List.mem_cons_self ..) (by omega)
        obtain ⟨q1, q2, q3⟩ := b1 _ hb
        have eb : x_bound (T (r * 16 + 8 + i)) = nI (240 + (b (T (r * 16 + 8 + i)) - 1)) := by
          rw [hbd _ (by omega) t1]
          unfold mx_b
          rw [if_neg hb]
          congr 1
          omega
        have e5 := c5 _ q1
        have K := ih N (i + 1) (tot + tx_z ar S (b (T (r * 16 + 8 + i)) - 1)) (by omega) (by omega) (by omega) hv' (by omega)
        have es : 240 + (b (T (r * 16 + 8 + i)) - 1 + tx_z ar S (b (T (r * 16 + 8 + i)) - 1)) - (240 + (b (T (r * 16 + 8 + i)) - 1)) = tx_z ar S (b (T (r * 16 + 8 + i)) - 1) := by omega
        simp (disch := omega) only [wX_sizeAfter_27, li_0, li_1, li_2, li_3, li_4, li_5, li_6, li_7, li_8, li_11, li_15, li_16, li_24, li_32, li_112, li_144, li_152, li_160, li_192, li_240, li_255, li_256, li_272, li_280, li_288, li_1295, li_1296, nI_add, pk_mul, pk_sub, ni_m1, nI_clamp, ni_in, nI_leI, nI_ltI, nI_eq, forall_eq, na_at, na_upd, Nat.zero_add, Nat.add_zero, r5, eb, e5, es]
        exact ⟨by omega, br_f (by omega) ⟨by omega, br_t (by omega) ⟨by omega, by omega, by omega, K⟩⟩⟩
  have es : Nn - (240 + (k + tx_z ar S k) - (240 + k)) = Nn - tx_z ar S k := by omega
  unfold wpX_sizeAfter
  simp (disch := omega) only [li_0, li_1, li_2, li_3, li_4, li_5, li_6, li_7, li_8, li_11, li_15, li_16, li_24, li_32, li_112, li_144, li_152, li_160, li_192, li_240, li_255, li_256, li_272, li_280, li_288, li_1295, li_1296, nI_add, pk_mul, pk_sub, ni_m1, nI_clamp, ni_in, nI_leI, nI_ltI, nI_eq, forall_eq, na_at, na_upd, Nat.zero_add, Nat.add_zero, e1, es]
  exact ⟨by omega, _, key rl.length _ 0 (Nn - tx_z ar S k) (Nat.lt_succ_self _) (by omega) (by omega) (by rw [Nat.add_zero, r3]; exact b2) (by rw [Nat.add_zero, r3])⟩
/-- what a copy appends -/
theorem mx_app {T T' : Nat → Nat} {W : List Nat} {w a n : Nat} (hW : tx_t T w W.length = W) (h : ∀ j, T' j = if w + W.length ≤ j ∧ j < w + W.length + n then T (a + (j - (w + W.length))) else T j) : tx_t T' w (W.length + n) = W ++ tx_t T a n := by
  rw [tx_app]
  have e1 : tx_t T' w W.length = W := by
    rw [← hW]
    rw [hW]
    have : tx_t T' w W.length = tx_t T w W.length := tx_congr fun i hi => by rw [h, if_neg (by omega)]
    rw [this, hW]
  have e2 : tx_t T' (w + W.length) n = tx_t T a n := tx_congr fun i hi => by
    rw [h, if_pos (by omega)]
    congr 1
    omega
  rw [e1, e2]
/-- the new subject -/
def mt_nl (ar S b : Nat → Nat) (Nn k : Nat) (rl : List Nat) : List Nat := tx_t S 0 k ++ (mt_r ar S b rl ++ tx_t S (k + tx_z ar S k) (Nn - (k + tx_z ar S k)))
theorem mt_nll {ar S b : Nat → Nat} {Nn k : Nat} {rl : List Nat} (h : k + tx_z ar S k ≤ Nn) : (mt_nl ar S b Nn k rl).length = Nn - tx_z ar S k + (mt_r ar S b rl).length := by
  unfold mt_nl
  rw [List.length_append, List.length_append, tx_len, tx_len]
  omega
theorem zx_replace {post : SX → Prop} {ar T en S b : Nat → Nat} {Nn r k : Nat} {rl : List Nat} (hA : fd_A ar) (hq : ∀ t, t < 8 → x_arity t = nI (ar t)) (C : mx_S ar T en S Nn) (hR : mx_R ar T en r rl) (hk : k < Nn) (hB : mx_B ar S Nn b rl) (hbd : ∀ v, 4 ≤ v → v < 8 → x_bound v = mx_b b v)
    (h32 : (mt_nl ar S b Nn k rl).length ≤ 32)
    (hp : ∀ T' en', (∀ k, T' k < 8) → (∀ k, k < 240 → T' k = T k) → (∀ i, i < 32 → T' (240 + i) = if i < (mt_nl ar S b Nn k rl).length then (mt_nl ar S b Nn k rl).getD i 0 else S i) →
      (∀ k, k < 240 → en' k = en k) → (∀ j, j < (mt_nl ar S b Nn k rl).length → en' (240 + j) = 240 + j + tx_z ar T' (240 + j)) → tx_T ar (mt_nl ar S b Nn k rl) →
      post (x_pairSlot, x_subjectBase, x_filteredLeft, x_filteredRight, x_scratch, x_allOrders, x_equalMark, x_termCells, x_phase, x_ruleCount, x_pairCount, x_lineCount, x_defined, x_openSide, x_openMissing, nI (mt_nl ar S b Nn k rl).length, x_subjectMissing, na_F T', na_F en', x_cut, x_length, x_precedences, x_above, x_greater, x_relation, x_arity, x_shape, x_kept, x_bound, x_links, x_lines)) :
    wpX_replace post (x_pairSlot, x_subjectBase, x_filteredLeft, x_filteredRight, x_scratch, x_allOrders, x_equalMark, x_termCells, x_phase, x_ruleCount, x_pairCount, x_lineCount, x_defined, x_openSide, x_openMissing, nI Nn, x_subjectMissing, na_F T, na_F en, x_cut, x_length, x_precedences, x_above, x_greater, x_relation, x_arity, x_shape, x_kept, x_bound, x_links, x_lines) (nI (240 + k)) (nI r) := by
  have C0 := C
  obtain ⟨c1, c2, c3, c4, c5⟩ := C
  obtain ⟨r1, r2, r3, r4, r5⟩ := hR
  obtain ⟨b1, b2⟩ := hB
  have e1 := c5 k hk
  obtain ⟨z1, z2, z3⟩ := tx_subk c4 (by omega) (Nat.zero_le k) (by omega)
  have hlen := mt_nll (b := b) (rl := rl) (show k + tx_z ar S k ≤ Nn by omega)
  have hcomp : tx_T ar (mt_nl ar S b Nn k rl) := mt_new (by omega) c4 hk (mt_rM hA.2.2.2.2 _ _ _ (fun v hm h4 => (b1 v (b2 v hm h4)).2.1) r4)
  -- the end: the suffix, the copy back, the ends
  have fin : ∀ T1 (W : List Nat), (∀ k, T1 k < 8) → (∀ k, k < 288 → T1 k = T k) → tx_t T1 288 W.length = W → W ++ tx_t S (k + tx_z ar S k) (Nn - (k + tx_z ar S k)) = mt_nl ar S b Nn k rl →
      wpX_copy (fun r_37 u => match u with | (x_pairSlot, x_subjectBase, x_filteredLeft, x_filteredRight, x_scratch, x_allOrders, x_equalMark, x_termCells, x_phase, x_ruleCount, x_pairCount, x_lineCount, x_defined, x_openSide, x_openMissing, x_subjectLength, x_subjectMissing, x_tok, x_end, x_cut, x_length, x_precedences, x_above, x_greater, x_relation, x_arity, x_shape, x_kept, x_bound, x_links, x_lines) => (∀ y : Int32, y = r_37 - 288 → (wpX_copy (fun r_70 u => match u with | (x_pairSlot, x_subjectBase, x_filteredLeft, x_filteredRight, x_scratch, x_allOrders, x_equalMark, x_termCells, x_phase, x_ruleCount, x_pairCount, x_lineCount, x_defined, x_openSide, x_openMissing, x_subjectLength, x_subjectMissing, x_tok, x_end, x_cut, x_length, x_precedences, x_above, x_greater, x_relation, x_arity, x_shape, x_kept, x_bound, x_links, x_lines) => (wpX_markEnds (fun u => match u with | (x_pairSlot, x_subjectBase, x_filteredLeft, x_filteredRight, x_scratch, x_allOrders, x_equalMark, x_termCells, x_phase, x_ruleCount, x_pairCount, x_lineCount, x_defined, x_openSide, x_openMissing, x_subjectLength, x_subjectMissing, x_tok, x_end, x_cut, x_length, x_precedences, x_above, x_greater, x_relation, x_arity, x_shape, x_kept, x_bound, x_links, x_lines) => (post (x_pairSlot, x_subjectBase, x_filteredLeft, x_filteredRight, x_scratch, x_allOrders, x_equalMark, x_termCells, x_phase, x_ruleCount, x_pairCount, x_lineCount, x_defined, x_openSide, x_openMissing, x_subjectLength, x_subjectMissing, x_tok, x_end, x_cut, x_length, x_precedences, x_above, x_greater, x_relation, x_arity, x_shape, x_kept, x_bound, x_links, x_lines))) (x_pairSlot, x_subjectBase, x_filteredLeft, x_filteredRight, x_scratch, x_allOrders, x_equalMark, x_termCells, x_phase, x_ruleCount, x_pairCount, x_lineCount, x_defined, x_openSide, x_openMissing, x_subjectLength, x_subjectMissing, x_tok, x_end, x_cut, x_length, x_precedences, x_above, x_greater, x_relation, x_arity, x_shape, x_kept, x_bound, x_links, x_lines) 240 x_subjectLength 0)) (x_pairSlot, x_subjectBase, x_filteredLeft, x_filteredRight, x_scratch, x_allOrders, x_equalMark, x_termCells, x_phase, x_ruleCount, x_pairCount, x_lineCount, x_defined, x_openSide, x_openMissing, y, x_subjectMissing, x_tok, x_end, x_cut, x_length, x_precedences, x_above, x_greater, x_relation, x_arity, x_shape, x_kept, x_bound, x_links, x_lines) 288 r_37 240))) (x_pairSlot, x_subjectBase, x_filteredLeft, x_filteredRight, x_scratch, x_allOrders, x_equalMark, x_termCells, x_phase, x_ruleCount, x_pairCount, x_lineCount, x_defined, x_openSide, x_openMissing, nI Nn, x_subjectMissing, na_F T1, na_F en, x_cut, x_length, x_precedences, x_above, x_greater, x_relation, x_arity, x_shape, x_kept, x_bound, x_links, x_lines) (nI (240 + (k + tx_z ar S k))) (nI (240 + Nn)) (nI (288 + W.length)) := by
    intro T1 W h1 h2 h3 h4
    have hWl := congrArg List.length h4
    rw [List.length_append, tx_len] at hWl
    refine zx_copy (by omega) (by omega) (by omega) (by omega) ?_
    intro T2 hT2
    have en2 : 240 + Nn - (240 + (k + tx_z ar S k)) = Nn - (k + tx_z ar S k) := by omega
    rw [en2] at hT2 ⊢
    have hT2a := mx_app (n := Nn - (k + tx_z ar S k)) h3 hT2
    have eS : tx_t T1 (240 + (k + tx_z ar S k)) (Nn - (k + tx_z ar S k)) = tx_t S (k + tx_z ar S k) (Nn - (k + tx_z ar S k)) := tx_congr fun i hi => by
      rw [h2 _ (by omega), Nat.add_assoc]
      exact c2 _ (by omega)
    rw [eS, h4, hWl] at hT2a
    have en3 : 288 + W.length + (Nn - (k + tx_z ar S k)) = 288 + (mt_nl ar S b Nn k rl).length := by omega
    rw [en3]
    refine nm_r (e' := nI (mt_nl ar S b Nn k rl).length) ?_ ?_
    · show nI _ - nI 288 = _
      rw [pk_sub (by omega)]
      congr 1
      omega
    have h8 : ∀ k, T2 k < 8 := fun j => by rw [hT2]; split; exact h1 _; exact h1 _
    refine zx_copy (a := 288) (b := 240) (by omega) (by omega) (by omega) (by omega) ?_
    intro T3 hT3
    have en4 : 288 + (mt_nl ar S b Nn k rl).length - 288 = (mt_nl ar S b Nn k rl).length := by omega
    rw [en4] at hT3
    have h83 : ∀ k, T3 k < 8 := fun j => by rw [hT3]; split; exact h8 _; exact h8 _
    have eN : tx_t T3 240 (mt_nl ar S b Nn k rl).length = mt_nl ar S b Nn k rl := by
      have : tx_t T3 240 (mt_nl ar S b Nn k rl).length = tx_t T2 288 (mt_nl ar S b Nn k rl).length := tx_congr fun i hi => by
        rw [hT3, if_pos (by omega)]
        congr 1
        omega
      rw [this, hT2a]
    have hpos := tx_T_pos hcomp
    refine zx_markEnds (q := ar) (b := 240) h83 (fd_A3 hA) (fun t ht => ⟨fun _ => hq t ht, fun z => absurd rfl z⟩) (by omega) (by omega) (by rw [eN]; exact hcomp) ?_
    intro en' he1 he2
    refine hp T3 en' h83 (fun j hj => ?_) (fun i hi => ?_) (fun j hj => he2 j (by omega)) (fun j hj => he1 _ (by omega) (by omega)) hcomp
    · rw [hT3, if_neg (by omega), hT2, if_neg (by omega), h2 j (by omega)]
    · by_cases hin : i < (mt_nl ar S b Nn k rl).length
      · rw [if_pos hin, ← tx_get (T := T3) (mt_nl ar S b Nn k rl).length 240 i hin, eN]
      · rw [if_neg hin, hT3, if_neg (by omega), hT2, if_neg (by omega), h2 _ (by omega)]
        exact c2 i hi
  have key : ∀ d N i T1 (W : List Nat), d < N → i + d = rl.length → (∀ k, T1 k < 8) → (∀ k, k < 288 → T1 k = T k) → tx_t T1 288 W.length = W → (∀ v, v ∈ tx_t T (r * 16 + 8 + i) d → 4 ≤ v → b v ≠ 0) →
      W ++ (mt_r ar S b (tx_t T (r * 16 + 8 + i) d) ++ tx_t S (k + tx_z ar S k) (Nn - (k + tx_z ar S k))) = mt_nl ar S b Nn k rl →
      wX_replace_25 post (nI (240 + k)) (nI (r * 16 + 8)) N (nI (288 + W.length)) (nI (r * 16 + 8 + i)) x_pairSlot x_subjectBase x_filteredLeft x_filteredRight x_scratch x_allOrders x_equalMark x_termCells x_phase x_ruleCount x_pairCount x_lineCount x_defined x_openSide x_openMissing (nI Nn) x_subjectMissing (na_F T1) (na_F en) x_cut x_length x_precedences x_above x_greater x_relation x_arity x_shape x_kept x_bound x_links x_lines := by
    intro d
    induction d with
    | zero =>
      intro N i T1 W hN hi h1 h2 h3 hv h4
      obtain ⟨N, rfl⟩ : ∃ M, N = M + 1 := ⟨N - 1, by omega⟩
      have F := fin T1 W h1 h2 h3 h4
      refine ⟨vp_in_nI (by omega) (by omega), br_t ?_ ⟨vp_in_nI (by omega) (by omega), ?_⟩⟩
      · rw [nI_clamp (by omega), na_at, r5]
        exact nI_le (by omega) (by omega)
      · rw [nI_clamp (by omega), na_at, e1, show (240 : Int32) + nI Nn = nI (240 + Nn) from nI_add 240 Nn]
        exact F
    | succ d ih =>
      intro N i T1 W hN hi h1 h2 h3 hv h4
      obtain ⟨N, rfl⟩ : ∃ M, N = M + 1 := ⟨N - 1, by omega⟩
      have hl := congrArg List.length h4
      rw [List.length_append, List.length_append] at hl
      have t1 := c1 (r * 16 + 8 + i)
      have eT := h2 (r * 16 + 8 + i) (by omega)
      have el : tx_t T (r * 16 + 8 + i) (d + 1) = T (r * 16 + 8 + i) :: tx_t T (r * 16 + 8 + (i + 1)) d := rfl
      rw [el] at hv h4 hl
      rw [mt_rlen] at hl
      have hv' := fun v hm => hv v (List.mem_cons_of_mem _ hm)
      have em : mt_r ar S b (T (r * 16 + 8 + i) :: tx_t T (r * 16 + 8 + (i + 1)) d) = (if T (r * 16 + 8 + i) < 4 then [T (r * 16 + 8 + i)] else tx_t S (b (T (r * 16 + 8 + i)) - 1) (tx_z ar S (b (T (r * 16 + 8 + i)) - 1))) ++ mt_r ar S b (tx_t T (r * 16 + 8 + (i + 1)) d) := rfl
      rw [em] at h4
      by_cases ht : T (r * 16 + 8 + i) < 4
      · rw [if_pos ht] at h4 hl
        have K := ih N (i + 1) (na_u T1 (288 + W.length) (T (r * 16 + 8 + i))) (W ++ [T (r * 16 + 8 + i)]) (by omega) (by omega) (fun j => by unfold na_u; split; exact t1; exact h1 j) (fun j hj => by rw [na_un (by omega)]; exact h2 j hj) (by
          rw [List.length_append]
          show tx_t _ 288 (W.length + 1) = _
          rw [tx_app]
          have q1 : tx_t (na_u T1 (288 + W.length) (T (r * 16 + 8 + i))) 288 W.length = tx_t T1 288 W.length := tx_congr fun j hj => na_un (by omega)
          rw [q1, h3]
          show W ++ [na_u T1 (288 + W.length) (T (r * 16 + 8 + i)) (288 + W.length)] = _
          rw [na_us]) hv' (by
          rw [← h4]
          simp only [List.append_assoc])
        rw [List.length_append] at K
        simp (disch := omega) only [wX_replace_25, li_0, li_1, li_2, li_3, li_4, li_5, li_6, li_7, li_8, li_11, li_15, li_16, li_24, li_32, li_112, li_144, li_152, li_160, li_192, li_240, li_255, li_256, li_272, li_280, li_288, li_1295, li_1296, nI_add, pk_mul, pk_sub, ni_m1, nI_clamp, ni_in, nI_leI, nI_ltI, nI_eq, forall_eq, na_at, na_upd, Nat.zero_add, Nat.add_zero, r5, eT]
        exact ⟨by omega, br_f (by omega) ⟨by omega, br_f (by omega) ⟨by omega, K⟩⟩⟩
      · rw [if_neg ht] at h4 hl
        have hb := hv _ (List.mem_cons_self ..) (by omega)
        obtain ⟨q1, q2, q3⟩ := b1 _ hb
        have eb : x_bound (T (r * 16 + 8 + i)) = nI (240 + (b (T (r * 16 + 8 + i)) - 1)) := by
          rw [hbd _ (by omega) t1]
          unfold mx_b
          rw [if_neg hb]
          congr 1
          omega
        have e5 := c5 _ q1
        simp (disch := omega) only [wX_replace_25, li_0, li_1, li_2, li_3, li_4, li_5, li_6, li_7, li_8, li_11, li_15, li_16, li_24, li_32, li_112, li_144, li_152, li_160, li_192, li_240, li_255, li_256, li_272, li_280, li_288, li_1295, li_1296, nI_add, pk_mul, pk_sub, ni_m1, nI_clamp, ni_in, nI_leI, nI_ltI, nI_eq, forall_eq, na_at, na_upd, Nat.zero_add, Nat.add_zero, r5, eT, eb, e5]
        refine ⟨by omega, br_f (by omega) ⟨by omega, br_t (by omega) ⟨by omega, by omega, by omega, ?_⟩⟩⟩
        refine zx_copy (by omega) (by omega) (by omega) (by omega) ?_
        intro T2 hT2
        have en2 : 240 + (b (T (r * 16 + 8 + i)) - 1 + tx_z ar S (b (T (r * 16 + 8 + i)) - 1)) - (240 + (b (T (r * 16 + 8 + i)) - 1)) = tx_z ar S (b (T (r * 16 + 8 + i)) - 1) := by omega
        rw [en2] at hT2 ⊢
        have hap := mx_app (n := tx_z ar S (b (T (r * 16 + 8 + i)) - 1)) h3 hT2
        have eS : tx_t T1 (240 + (b (T (r * 16 + 8 + i)) - 1)) (tx_z ar S (b (T (r * 16 + 8 + i)) - 1)) = tx_t S (b (T (r * 16 + 8 + i)) - 1) (tx_z ar S (b (T (r * 16 + 8 + i)) - 1)) := tx_congr fun j hj => by
          rw [h2 _ (by omega), Nat.add_assoc]
          exact c2 _ (by omega)
        rw [eS] at hap
        have K := ih N (i + 1) T2 (W ++ tx_t S (b (T (r * 16 + 8 + i)) - 1) (tx_z ar S (b (T (r * 16 + 8 + i)) - 1))) (by omega) (by omega) (fun j => by rw [hT2]; split; exact h1 _; exact h1 _) (fun j hj => by rw [hT2, if_neg (by omega)]; exact h2 j hj) (by
          rw [List.length_append, tx_len]
          exact hap) hv' (by
          rw [← h4]
          simp only [List.append_assoc])
        rw [List.length_append, tx_len, ← Nat.add_assoc] at K
        exact K
  unfold wpX_replace
  refine zx_copy (a := 240) (b := 288) (by omega) (by omega) (by omega) (by omega) ?_
  intro T1 hT1
  have en0 : 240 + k - 240 = k := by omega
  rw [en0] at hT1 ⊢
  have hT1a : tx_t T1 288 k = tx_t S 0 k := tx_congr fun i hi => by
    rw [hT1, if_pos (by omega), show 240 + (288 + i - 288) = 240 + i by omega, Nat.zero_add]
    exact c2 _ (by omega)
  refine nm_r (e' := nI (r * 16 + 8)) (by rw [← nI_add, ← pk_mul]; rfl) ⟨rl.length + 1, ?_⟩
  have K := key rl.length (rl.length + 1) 0 T1 (tx_t S 0 k) (by omega) (by omega) (fun j => by rw [hT1]; split; exact c1 _; exact c1 _) (fun j hj => by rw [hT1, if_neg (by omega)]) (by rw [tx_len]; exact hT1a) (by rw [Nat.add_zero, r3]; exact b2) (by rw [Nat.add_zero, r3]; rfl)
  rw [tx_len] at K
  exact K
end
end
section
section
variable {y_cap y_phase y_rules y_pairs y_lines y_size : Int32} {y_m y_ar y_len y_pairAt y_rec y_digit y_level y_bind y_hide y_gt y_fit y_path : Nat → Int32}
def my_b (b : Nat → Nat) (v : Nat) : Int32 := if b v = 0 then -1 else nI (111 + b v)
def my_S (ar T S : Nat → Nat) (N : Nat) : Prop := (∀ k, T k < 8) ∧ (∀ i, i < 32 → T (112 + i) = S i) ∧ N ≤ 32 ∧ tx_T ar (tx_t S 0 N)
theorem my_t {T S : Nat → Nat} (h : ∀ i, i < 32 → T (112 + i) = S i) {u n : Nat} (hu : u + n ≤ 32) : tx_t T (112 + u) n = tx_t S u n :=
  tx_congr fun i hi => by rw [Nat.add_assoc]; exact h _ (by omega)
/-- sameness of two terms of the subject, read in the cells -/
theorem my_same {ar T S : Nat → Nat} {u j : Nat} (c2 : ∀ i, i < 32 → T (112 + i) = S i) (q2 : tx_T ar (tx_t S u (tx_z ar S u))) (q3 : u + tx_z ar S u ≤ 32) (z1 : tx_T ar (tx_t S j (tx_z ar S j))) (z2 : j + tx_z ar S j ≤ 32) :
    tx_t T (112 + u) (tx_z ar S u) = tx_t T (112 + j) (tx_z ar S u) ↔ tx_t S u (tx_z ar S u) = tx_t S j (tx_z ar S u) := by
  constructor
  · intro e
    have hz1 : tx_T ar (tx_t T (112 + j) (tx_z ar S u)) := by rw [← e, my_t c2 (by omega)]; exact q2
    have hz2 : tx_T ar (tx_t T (112 + j) (tx_z ar S j)) := by rw [my_t c2 (by omega)]; exact z1
    have a1 := tx_z_of hz1 (by omega)
    have a2 := tx_z_of hz2 (by omega)
    rw [my_t c2 (by omega), my_t c2 (by omega)] at e
    exact e
  · intro z
    have hz1 : tx_T ar (tx_t S j (tx_z ar S u)) := by rw [← z]; exact q2
    have a1 := tx_z_of hz1 (by omega)
    have a2 := tx_z_of z1 (by omega)
    rw [my_t c2 (by omega), my_t c2 (by omega)]
    exact z
theorem zy_m26 {post : Int32 → SY → Prop} {ar T S : Nat → Nat} {Nn r n : Nat} (hA : fd_A ar) (hq : ∀ t, t < 8 → y_ar t = nI (ar t)) (C : my_S ar T S Nn) (hr : r < 6) (hn : n ≤ 8) (el : y_len (2 * r) = nI n) :
    ∀ d N i j b bd m ns, d < N → i + d = n → tx_M ar (tx_t T (16 * r + i) d) m 0 → tx_M ar (tx_t S j ns) m 0 → j + ns ≤ Nn → mt_B ar S Nn b → (∀ v, v < 8 → bd v = my_b b v) →
      (∀ b' bd', mt_m ar S (tx_t T (16 * r + i) d) j b = some b' → (∀ v, v < 8 → bd' v = my_b b' v) → post 1 (y_cap, y_phase, y_rules, y_pairs, y_lines, y_size, na_F T, y_ar, y_len, y_pairAt, y_rec, y_digit, y_level, bd', y_hide, y_gt, y_fit, y_path)) →
      (∀ bd', mt_m ar S (tx_t T (16 * r + i) d) j b = none → post 0 (y_cap, y_phase, y_rules, y_pairs, y_lines, y_size, na_F T, y_ar, y_len, y_pairAt, y_rec, y_digit, y_level, bd', y_hide, y_gt, y_fit, y_path)) →
      wY_matches_26 post (nI r) y_cap y_phase y_rules y_pairs y_lines y_size N (nI (112 + j)) (nI i) (na_F T) y_ar y_len y_pairAt y_rec y_digit y_level bd y_hide y_gt y_fit y_path := by
  obtain ⟨c1, c2, c3, c4⟩ := C
  intro d
  induction d with
  | zero =>
    intro N i j b bd m ns hN hi hl hS hjn hB hbd h1 h0
    obtain ⟨N, rfl⟩ : ∃ M, N = M + 1 := ⟨N - 1, by omega⟩
    have K := h1 b bd rfl hbd
    simp (disch := omega) only [wY_matches_26, li_0, li_1, li_2, li_3, li_4, li_5, li_6, li_7, li_8, li_11, li_15, li_16, li_24, li_32, li_112, li_144, li_152, li_160, li_192, li_240, li_255, li_256, li_272, li_280, li_288, li_1295, li_1296, nI_add, pk_mul, pk_sub, ni_m1, nI_clamp, ni_in, nI_leI, nI_ltI, nI_eq, forall_eq, na_at, na_upd, Nat.zero_add, Nat.add_zero, el]
    exact ⟨by omega, br_t (by omega) K⟩
  | succ d ih =>
    intro N i j b bd m ns hN hi hl hS hjn hB hbd h1 h0
    obtain ⟨N, rfl⟩ : ∃ M, N = M + 1 := ⟨N - 1, by omega⟩
    have t1 := c1 (16 * r + i)
    obtain ⟨m0, em, hl⟩ := hl
    subst em
    have hp : 0 < ns := by
      have := tx_M_le _ _ hS
      rw [tx_len] at this
      omega
    obtain ⟨ns', rfl⟩ : ∃ e, ns = e + 1 := ⟨ns - 1, by omega⟩
    obtain ⟨z1, z2, z3⟩ := tx_subz (j := 0) hS (by omega) (by omega)
    rw [Nat.add_zero] at z1 z2 z3
    have t2 : S j < 8 := by rw [← c2 j (by omega)]; exact c1 _
    have eS := c2 j (by omega)
    have em : mt_m ar S (tx_t T (16 * r + i) (d + 1)) j b = if T (16 * r + i) < 4 then (if S j = T (16 * r + i) then mt_m ar S (tx_t T (16 * r + i + 1) d) (j + 1) b else none)
      else if b (T (16 * r + i)) = 0 then mt_m ar S (tx_t T (16 * r + i + 1) d) (j + tx_z ar S j) (na_u b (T (16 * r + i)) (j + 1))
      else if tx_t S (b (T (16 * r + i)) - 1) (tx_z ar S (b (T (16 * r + i)) - 1)) = tx_t S j (tx_z ar S (b (T (16 * r + i)) - 1)) then mt_m ar S (tx_t T (16 * r + i + 1) d) (j + tx_z ar S j) b else none := rfl
    rw [em] at h1 h0
    have hend : ∀ (bd : Nat → Int32) (post' : Int32 → Prop), post' (nI (112 + (j + tx_z ar S j))) → wpY_end post' (y_cap, y_phase, y_rules, y_pairs, y_lines, y_size, na_F T, y_ar, y_len, y_pairAt, y_rec, y_digit, y_level, bd, y_hide, y_gt, y_fit, y_path) (nI (112 + j)) 0 := by
      intro bd post' hp
      refine zy_end0 (n := tx_z ar S j) c1 hq (fd_A3 hA) (by omega) (by rw [my_t c2 (by omega)]; exact z1) ?_
      rw [Nat.add_assoc]
      exact hp
    by_cases ht : T (16 * r + i) < 4
    · rw [if_pos ht] at h1 h0
      obtain ⟨m1, e1, hS'⟩ := hS
      have e01 : m1 = m0 := by omega
      subst e01
      simp (disch := omega) only [wY_matches_26, li_0, li_1, li_2, li_3, li_4, li_5, li_6, li_7, li_8, li_11, li_15, li_16, li_24, li_32, li_112, li_144, li_152, li_160, li_192, li_240, li_255, li_256, li_272, li_280, li_288, li_1295, li_1296, nI_add, pk_mul, pk_sub, ni_m1, nI_clamp, ni_in, nI_leI, nI_ltI, nI_eq, forall_eq, na_at, na_upd, Nat.zero_add, Nat.add_zero, el, eS]
      refine ⟨by omega, br_f (by omega) ⟨by omega, br_f (by omega) ⟨by omega, br_c (fun e => ?_) (fun e => ?_)⟩⟩⟩
      · rw [if_pos e] at h1 h0
        rw [e] at hS'
        exact ih N (i + 1) (j + 1) b bd _ ns' (by omega) (by omega) hl hS' (by omega) hB hbd h1 h0
      · rw [if_neg e] at h0
        exact h0 bd rfl
    · rw [if_neg ht] at h1 h0
      rw [hA.2.2.2.2 _ (by omega), Nat.add_zero] at hl
      have hS2 : tx_M ar (tx_t S (j + tx_z ar S j) (ns' + 1 - tx_z ar S j)) m0 0 := by
        rw [Nat.add_comm m0 1] at hS
        obtain ⟨n1, n2, en1, q1, q2⟩ := tx_sp hS
        have : tx_z ar S j = n1 := tx_z_of q1 (by omega)
        rw [this, show ns' + 1 - n1 = n2 by omega]
        exact q2
      have eb := hbd (T (16 * r + i)) t1
      by_cases hb0 : b (T (16 * r + i)) = 0
      · rw [if_pos hb0] at h1 h0
        have eb' : bd (T (16 * r + i)) = -1 := by rw [eb]; exact if_pos hb0
        have K := ih N (i + 1) (j + tx_z ar S j) (na_u b (T (16 * r + i)) (j + 1)) (upd bd (T (16 * r + i)) (nI (112 + j))) m0 (ns' + 1 - tx_z ar S j) (by omega) (by omega) hl hS2 (by omega)
          (fun v hv => by
            by_cases e : v = T (16 * r + i)
            · rw [e, na_us, Nat.add_sub_cancel]
              exact ⟨by omega, z1, by omega⟩
            · rw [na_un e] at hv ⊢
              exact hB v hv)
          (fun v h8 => by
            by_cases e : v = T (16 * r + i)
            · rw [e, pk_us]
              unfold my_b
              rw [na_us, if_neg (by omega)]
              congr 1
              omega
            · rw [pk_un e, hbd v h8]
              unfold my_b
              rw [na_un e]) h1 h0
        simp (disch := omega) only [wY_matches_26, wY_matches_96, li_0, li_1, li_2, li_3, li_4, li_5, li_6, li_7, li_8, li_11, li_15, li_16, li_24, li_32, li_112, li_144, li_152, li_160, li_192, li_240, li_255, li_256, li_272, li_280, li_288, li_1295, li_1296, nI_add, pk_mul, pk_sub, ni_m1, nI_clamp, ni_in, nI_leI, nI_ltI, nI_eq, forall_eq, na_at, na_upd, Nat.zero_add, Nat.add_zero, el, eS, eb', pk_us]
        refine ⟨by omega, br_f (by omega) ⟨by omega, br_t (by omega) ⟨by omega, br_f (by decide) ⟨by omega, by omega, ?_⟩⟩⟩⟩
        refine zy_same0 (n := tx_z ar S j) c1 hq (fd_A3 hA) (by omega) (by omega) (by rw [my_t c2 (by omega)]; exact z1) (fun e => br_f (by decide) ?_) (fun e => absurd rfl e)
        exact hend _ _ K
      · rw [if_neg hb0] at h1 h0
        obtain ⟨q1, q2, q3⟩ := hB _ hb0
        have eb' : bd (T (16 * r + i)) = nI (112 + (b (T (16 * r + i)) - 1)) := by
          rw [eb]
          unfold my_b
          rw [if_neg hb0]
          congr 1
          omega
        have zb := tx_T_pos q2
        rw [tx_len] at zb
        have hs := my_same c2 q2 (by omega) z1 (by omega)
        simp (disch := omega) only [wY_matches_26, wY_matches_96, li_0, li_1, li_2, li_3, li_4, li_5, li_6, li_7, li_8, li_11, li_15, li_16, li_24, li_32, li_112, li_144, li_152, li_160, li_192, li_240, li_255, li_256, li_272, li_280, li_288, li_1295, li_1296, nI_add, pk_mul, pk_sub, ni_m1, nI_clamp, ni_in, nI_leI, nI_ltI, nI_eq, forall_eq, na_at, na_upd, Nat.zero_add, Nat.add_zero, el, eS, eb']
        refine ⟨by omega, br_f (by omega) ⟨by omega, br_t (by omega) ⟨by omega, br_t (by omega) ⟨by omega, ?_⟩⟩⟩⟩
        refine zy_same0 (n := tx_z ar S (b (T (16 * r + i)) - 1)) c1 hq (fd_A3 hA) (by omega) (by omega) (by rw [my_t c2 (by omega)]; exact q2) (fun e => br_f (by decide) ?_) (fun e => br_t (by decide) ?_)
        · have e' := hs.mp e
          rw [if_pos e'] at h1 h0
          exact hend _ _ (ih N (i + 1) (j + tx_z ar S j) b bd m0 (ns' + 1 - tx_z ar S j) (by omega) (by omega) hl hS2 (by omega) hB hbd h1 h0)
        · have e' := fun z => e (hs.mpr z)
          rw [if_neg e'] at h0
          exact h0 bd rfl
theorem zy_matches {post : Int32 → SY → Prop} {ar T S : Nat → Nat} {Nn r n k : Nat} (hA : fd_A ar) (hq : ∀ t, t < 8 → y_ar t = nI (ar t)) (C : my_S ar T S Nn) (hr : r < 6) (hn : n ≤ 8) (el : y_len (2 * r) = nI n) (hl : tx_T ar (tx_t T (16 * r) n)) (hk : k < Nn)
    (h1 : ∀ b' bd', mt_m ar S (tx_t T (16 * r) n) k (fun _ => 0) = some b' → (∀ v, v < 8 → bd' v = my_b b' v) → post 1 (y_cap, y_phase, y_rules, y_pairs, y_lines, y_size, na_F T, y_ar, y_len, y_pairAt, y_rec, y_digit, y_level, bd', y_hide, y_gt, y_fit, y_path))
    (h0 : ∀ bd', mt_m ar S (tx_t T (16 * r) n) k (fun _ => 0) = none → post 0 (y_cap, y_phase, y_rules, y_pairs, y_lines, y_size, na_F T, y_ar, y_len, y_pairAt, y_rec, y_digit, y_level, bd', y_hide, y_gt, y_fit, y_path)) :
    wpY_matches post (y_cap, y_phase, y_rules, y_pairs, y_lines, y_size, na_F T, y_ar, y_len, y_pairAt, y_rec, y_digit, y_level, y_bind, y_hide, y_gt, y_fit, y_path) (nI r) (nI (112 + k)) := by
  have key : ∀ d N v bd, d < N → v + d = 8 → (∀ w, w < v → bd w = -1) → wY_matches_2 post (nI r) (nI (112 + k)) y_cap y_phase y_rules y_pairs y_lines y_size N (nI v) (na_F T) y_ar y_len y_pairAt y_rec y_digit y_level bd y_hide y_gt y_fit y_path := by
    intro d
    induction d with
    | zero =>
      intro N v bd hN hv hb
      obtain ⟨N, rfl⟩ : ∃ M, N = M + 1 := ⟨N - 1, by omega⟩
      refine br_t (nI_le (a := 8) (by omega) (by omega)) ⟨n + 1, ?_⟩
      obtain ⟨z1, z2, z3⟩ := tx_subk C.2.2.2 (by have := C.2.2.1; omega) (Nat.zero_le k) (by omega)
      exact zy_m26 hA hq C hr hn el n (n + 1) 0 k (fun _ => 0) bd 1 (tx_z ar S k) (by omega) (by omega) hl z1 (by omega) (fun v hv => absurd rfl hv) (fun w h8 => hb w (by omega)) h1 h0
    | succ d ih =>
      intro N v bd hN hv hb
      obtain ⟨N, rfl⟩ : ∃ M, N = M + 1 := ⟨N - 1, by omega⟩
      refine br_f (nI_ge (b := 8) (by omega) (by omega)) ⟨vp_in_nI (by omega) (by omega), ?_⟩
      rw [nI_clamp (by omega)]
      refine nm_e (nm_r (e' := nI (v + 1)) (nI_1 v) ?_)
      refine ih N (v + 1) _ (by omega) (by omega) (fun w hw2 => ?_)
      by_cases e : w = v
      · rw [e, pk_us]
      · rw [pk_un e]; exact hb w (by omega)
  exact ⟨9, key 8 9 0 y_bind (by omega) (by omega) (fun w h2 => by omega)⟩
def my_L (ar T : Nat → Nat) (ln : Nat → Int32) (R : Nat) (LL : Nat → List Nat) : Prop := R ≤ 6 ∧ ∀ r, r < R → (LL r).length ≤ 8 ∧ tx_t T (16 * r) (LL r).length = LL r ∧ tx_T ar (LL r) ∧ ln (2 * r) = nI (LL r).length
theorem zy_ruleAt {post : Int32 → SY → Prop} {ar T S : Nat → Nat} {LL : Nat → List Nat} {Nn R k : Nat} (hA : fd_A ar) (hq : ∀ t, t < 8 → y_ar t = nI (ar t)) (C : my_S ar T S Nn) (hL : my_L ar T y_len R LL) (hk : k < Nn)
    (h1 : ∀ r b' bd', r < R → (∀ r', r' < r → mt_m ar S (LL r') k (fun _ => 0) = none) → mt_m ar S (LL r) k (fun _ => 0) = some b' → (∀ v, v < 8 → bd' v = my_b b' v) → post (nI r) (y_cap, y_phase, nI R, y_pairs, y_lines, y_size, na_F T, y_ar, y_len, y_pairAt, y_rec, y_digit, y_level, bd', y_hide, y_gt, y_fit, y_path))
    (h0 : ∀ bd', (∀ r, r < R → mt_m ar S (LL r) k (fun _ => 0) = none) → post (-1) (y_cap, y_phase, nI R, y_pairs, y_lines, y_size, na_F T, y_ar, y_len, y_pairAt, y_rec, y_digit, y_level, bd', y_hide, y_gt, y_fit, y_path)) :
    wpY_ruleAt post (y_cap, y_phase, nI R, y_pairs, y_lines, y_size, na_F T, y_ar, y_len, y_pairAt, y_rec, y_digit, y_level, y_bind, y_hide, y_gt, y_fit, y_path) (nI (112 + k)) := by
  obtain ⟨hR, hL⟩ := hL
  have key : ∀ d N r bd, d < N → r + d = R → (∀ r', r' < r → mt_m ar S (LL r') k (fun _ => 0) = none) → wY_ruleAt_2 post (nI (112 + k)) N (nI r) y_cap y_phase (nI R) y_pairs y_lines y_size (na_F T) y_ar y_len y_pairAt y_rec y_digit y_level bd y_hide y_gt y_fit y_path := by
    intro d
    induction d with
    | zero =>
      intro N r bd hN hr h
      obtain ⟨N, rfl⟩ : ∃ M, N = M + 1 := ⟨N - 1, by omega⟩
      exact br_t (nI_le (by omega) (by omega)) (h0 bd fun r' hr' => h r' (by omega))
    | succ d ih =>
      intro N r bd hN hr h
      obtain ⟨N, rfl⟩ : ∃ M, N = M + 1 := ⟨N - 1, by omega⟩
      obtain ⟨l1, l2, l3, l4⟩ := hL r (by omega)
      refine br_f (nI_ge (by omega) (by omega)) ?_
      refine zy_matches (n := (LL r).length) hA hq C (by omega) l1 l4 (by rw [l2]; exact l3) hk (fun b' bd' e hb => ?_) (fun bd' e => ?_)
      · rw [l2] at e
        exact br_f (by decide) (h1 r b' bd' (by omega) h e hb)
      · rw [l2] at e
        refine br_t (by decide) ?_
        refine nm_r (e' := nI (r + 1)) (nI_1 r) ?_
        refine ih N (r + 1) bd' (by omega) (by omega) (fun r' hr' => ?_)
        by_cases e2 : r' = r
        · rw [e2]; exact e
        · exact h r' (by omega)
  exact ⟨R + 1, key R (R + 1) 0 y_bind (by omega) (by omega) (fun r' hr' => by omega)⟩
theorem zy_innermost {post : Int32 → SY → Prop} {ar T S : Nat → Nat} {LL : Nat → List Nat} {Nn R k : Nat} (hA : fd_A ar) (hq : ∀ t, t < 8 → y_ar t = nI (ar t)) (C : my_S ar T S Nn) (hL : my_L ar T y_len R LL) (hk : k < Nn)
    (h1 : ∀ bd', mt_I (mt_rd ar S LL R) (mt_E ar S) k → post 1 (y_cap, y_phase, nI R, y_pairs, y_lines, y_size, na_F T, y_ar, y_len, y_pairAt, y_rec, y_digit, y_level, bd', y_hide, y_gt, y_fit, y_path))
    (h0 : ∀ bd', ¬ mt_I (mt_rd ar S LL R) (mt_E ar S) k → post 0 (y_cap, y_phase, nI R, y_pairs, y_lines, y_size, na_F T, y_ar, y_len, y_pairAt, y_rec, y_digit, y_level, bd', y_hide, y_gt, y_fit, y_path)) :
    wpY_innermost post (y_cap, y_phase, nI R, y_pairs, y_lines, y_size, na_F T, y_ar, y_len, y_pairAt, y_rec, y_digit, y_level, y_bind, y_hide, y_gt, y_fit, y_path) (nI (112 + k)) := by
  have C0 := C
  obtain ⟨c1, c2, c3, c4⟩ := C
  obtain ⟨z1, z2, z3⟩ := tx_subk c4 (by omega) (Nat.zero_le k) (by omega)
  refine zy_ruleAt hA hq C0 hL hk (fun r b' bd' hr _ e _ => ?_) (fun bd' hno => ?_)
  · have hrd : mt_rd ar S LL R k := ⟨r, hr, by rw [e]; exact fun z => nomatch z⟩
    refine br_t (nI_pos' (by have := hL.1; omega)) ?_
    refine zy_end0 (n := tx_z ar S k) c1 hq (fd_A3 hA) (by omega) (by rw [my_t c2 (by omega)]; exact z1) ?_
    refine nm_r (e' := nI (112 + (k + 1))) (nI_1 _) ?_
    have key : ∀ d N i bd, d < N → i + d = k + tx_z ar S k → k < i → (∀ j, k < j → j < i → ¬ mt_rd ar S LL R j) → wY_innermost_21 post (nI (112 + k + tx_z ar S k)) N (nI (112 + i)) y_cap y_phase (nI R) y_pairs y_lines y_size (na_F T) y_ar y_len y_pairAt y_rec y_digit y_level bd y_hide y_gt y_fit y_path := by
      intro d
      induction d with
      | zero =>
        intro N i bd hN hi hki h
        obtain ⟨N, rfl⟩ : ∃ M, N = M + 1 := ⟨N - 1, by omega⟩
        exact br_t (nI_le (by omega) (by omega)) (h1 bd ⟨hrd, fun j hj1 hj2 => h j hj1 (by unfold mt_E at hj2; omega)⟩)
      | succ d ih =>
        intro N i bd hN hi hki h
        obtain ⟨N, rfl⟩ : ∃ M, N = M + 1 := ⟨N - 1, by omega⟩
        refine br_f (nI_ge (by omega) (by omega)) ?_
        refine zy_ruleAt hA hq C0 hL (show i < Nn by omega) (fun r2 b2 bd2 hr2 _ e2 _ => ?_) (fun bd2 hno => ?_)
        · refine br_f (nI_pos (by have := hL.1; omega)) (h0 bd2 fun z => z.2 i hki (by unfold mt_E; omega) ⟨r2, hr2, by rw [e2]; exact fun z => nomatch z⟩)
        · refine br_t (by decide) ?_
          refine nm_r (e' := nI (112 + (i + 1))) (nI_1 _) ?_
          refine ih N (i + 1) bd2 (by omega) (by omega) (by omega) (fun j hj1 hj2 => ?_)
          by_cases e3 : j = i
          · rw [e3]
            exact fun ⟨r3, hr3, e4⟩ => e4 (hno r3 hr3)
          · exact h j hj1 (by omega)
    exact ⟨tx_z ar S k, key (tx_z ar S k - 1) _ (k + 1) bd' (by omega) (by omega) (by omega) (fun j h2 h3 => by omega)⟩
  · refine br_f (by decide) (h0 bd' fun z => ?_)
    obtain ⟨r, hr, e⟩ := z.1
    exact e (hno r hr)
/-- the reference's search, then its step -/
theorem zy_run50 {post : Int32 → SY → Prop} {J38 : Int32 → Int32 → Int32 → Int32 → Int32 → Int32 → Int32 → (Nat → Int32) → (Nat → Int32) → (Nat → Int32) → (Nat → Int32) → (Nat → Int32) → (Nat → Int32) → (Nat → Int32) → (Nat → Int32) → (Nat → Int32) → (Nat → Int32) → (Nat → Int32) → (Nat → Int32) → Prop} {x2 x3 : Int32} {ar T S : Nat → Nat} {LL : Nat → List Nat} {Nn R : Nat} (hA : fd_A ar) (hq : ∀ t, t < 8 → y_ar t = nI (ar t)) (C : my_S ar T S Nn) (hL : my_L ar T y_len R LL)
    (h1 : ∀ k bd', k < Nn → mt_I (mt_rd ar S LL R) (mt_E ar S) k → (∀ i, i < k → ¬ mt_I (mt_rd ar S LL R) (mt_E ar S) i) → wY_run_86 post J38 x2 x3 (nI (112 + k)) y_cap y_phase (nI R) y_pairs y_lines (nI Nn) (na_F T) y_ar y_len y_pairAt y_rec y_digit y_level bd' y_hide y_gt y_fit y_path)
    (h0 : ∀ bd', (∀ k, k < Nn → ¬ mt_I (mt_rd ar S LL R) (mt_E ar S) k) → post 1 (y_cap, y_phase, nI R, y_pairs, y_lines, nI Nn, na_F T, y_ar, y_len, y_pairAt, y_rec, y_digit, y_level, bd', y_hide, y_gt, y_fit, y_path)) :
    ∀ d N i bd, d < N → i + d = Nn → (∀ j, j < i → ¬ mt_I (mt_rd ar S LL R) (mt_E ar S) j) → wY_run_50 post J38 x2 x3 N (-1) (nI (112 + i)) y_cap y_phase (nI R) y_pairs y_lines (nI Nn) (na_F T) y_ar y_len y_pairAt y_rec y_digit y_level bd y_hide y_gt y_fit y_path := by
  have c3 := C.2.2.1
  intro d
  induction d with
  | zero =>
    intro N i bd hN hi h
    obtain ⟨N, rfl⟩ : ∃ M, N = M + 1 := ⟨N - 1, by omega⟩
    refine br_t ?_ ?_
    · show nI 112 + nI Nn ≤ _
      rw [nI_add]
      exact nI_le (by omega) (by omega)
    · exact br_f (by decide) (h0 bd fun j hj => h j (by omega))
  | succ d ih =>
    intro N i bd hN hi h
    obtain ⟨N, rfl⟩ : ∃ M, N = M + 1 := ⟨N - 1, by omega⟩
    refine br_f ?_ (br_f (by decide) ?_)
    · show ¬ nI 112 + nI Nn ≤ _
      rw [nI_add]
      exact nI_ge (by omega) (by omega)
    refine zy_innermost hA hq C hL (show i < Nn by omega) (fun bd' hI => br_f (by decide) ?_) (fun bd' hI => br_t (by decide) ?_)
    · refine nm_r (e' := nI (112 + (i + 1))) (nI_1 _) ?_
      cases N with
      | zero => omega
      | succ N =>
        have K := h1 i bd' (by omega) hI h
        refine br_c (fun _ => K) (fun _ => br_t (nI_pos' (by omega)) K)
    · refine nm_r (e' := nI (112 + (i + 1))) (nI_1 _) ?_
      refine ih N (i + 1) bd' (by omega) (by omega) (fun j hj => ?_)
      by_cases e : j = i
      · rw [e]; exact hI
      · exact h j (by omega)
end
end
section
section
variable {y_cap y_phase y_rules y_pairs y_lines y_size : Int32} {y_m y_ar y_len y_pairAt y_rec y_digit y_level y_bind y_hide y_gt y_fit y_path : Nat → Int32}
def my_R (ar T : Nat → Nat) (ln : Nat → Int32) (r : Nat) (rl : List Nat) : Prop := r < 6 ∧ rl.length ≤ 8 ∧ tx_t T (16 * r + 8) rl.length = rl ∧ tx_T ar rl ∧ ln (2 * r + 1) = nI rl.length
theorem zy_run234 {post : Int32 → SY → Prop} {J38 : Int32 → Int32 → Int32 → Int32 → Int32 → Int32 → Int32 → (Nat → Int32) → (Nat → Int32) → (Nat → Int32) → (Nat → Int32) → (Nat → Int32) → (Nat → Int32) → (Nat → Int32) → (Nat → Int32) → (Nat → Int32) → (Nat → Int32) → (Nat → Int32) → (Nat → Int32) → Prop} {x2 : Int32} {ar T S b : Nat → Nat} {Nn r k made : Nat} {rl : List Nat} (hA : fd_A ar) (hq : ∀ t, t < 8 → y_ar t = nI (ar t)) (C : my_S ar T S Nn) (hR : my_R ar T y_len r rl) (hk : k < Nn) (hB : mx_B ar S Nn b rl) (hbd : ∀ v, v < 8 → y_bind v = my_b b v)
    (h32 : (mt_nl ar S b Nn k rl).length ≤ 32) (hm : made < 100)
    (hJ : ∀ T', (∀ k, T' k < 8) → (∀ k, k < 112 → T' k = T k) → (∀ i, i < 32 → T' (112 + i) = if i < (mt_nl ar S b Nn k rl).length then (mt_nl ar S b Nn k rl).getD i 0 else S i) → tx_T ar (mt_nl ar S b Nn k rl) →
      J38 (nI (made + 1)) y_cap y_phase y_rules y_pairs y_lines (nI (mt_nl ar S b Nn k rl).length) (na_F T') y_ar y_len y_pairAt y_rec y_digit y_level y_bind y_hide y_gt y_fit y_path) :
    ∀ d N i T1 (W : List Nat), d < N → i + d = rl.length → (∀ k, T1 k < 8) → (∀ k, k < 160 → T1 k = T k) → tx_t T1 160 W.length = W → (∀ v, v ∈ tx_t T (16 * r + 8 + i) d → 4 ≤ v → b v ≠ 0) →
      W ++ (mt_r ar S b (tx_t T (16 * r + 8 + i) d) ++ tx_t S (k + tx_z ar S k) (Nn - (k + tx_z ar S k))) = mt_nl ar S b Nn k rl →
      wY_run_234 post J38 x2 (nI made) (nI r) (nI (112 + (k + tx_z ar S k))) N (nI (160 + W.length)) (nI i) y_cap y_phase y_rules y_pairs y_lines (nI Nn) (na_F T1) y_ar y_len y_pairAt y_rec y_digit y_level y_bind y_hide y_gt y_fit y_path := by
  have C0 := C
  obtain ⟨c1, c2, c3, c4⟩ := C
  obtain ⟨r1, r2, r3, r4, r5⟩ := hR
  obtain ⟨b1, b2⟩ := hB
  obtain ⟨z1, z2, z3⟩ := tx_subk c4 (by omega) (Nat.zero_le k) (by omega)
  have hlen := mt_nll (b := b) (rl := rl) (show k + tx_z ar S k ≤ Nn by omega)
  have hcomp : tx_T ar (mt_nl ar S b Nn k rl) := mt_new (by omega) c4 hk (mt_rM hA.2.2.2.2 _ _ _ (fun v hm h4 => (b1 v (b2 v hm h4)).2.1) r4)
  intro d
  induction d with
  | zero =>
    intro N i T1 W hN hi h1 h2 h3 hv h4
    obtain ⟨N, rfl⟩ : ∃ M, N = M + 1 := ⟨N - 1, by omega⟩
    have h4' : W ++ tx_t S (k + tx_z ar S k) (Nn - (k + tx_z ar S k)) = mt_nl ar S b Nn k rl := h4
    have hWl := congrArg List.length h4'
    rw [List.length_append, tx_len] at hWl
    simp (disch := omega) only [wY_run_234, li_0, li_1, li_2, li_3, li_4, li_5, li_6, li_7, li_8, li_11, li_15, li_16, li_24, li_32, li_112, li_144, li_152, li_160, li_192, li_240, li_255, li_256, li_272, li_280, li_288, li_1295, li_1296, nI_add, pk_mul, pk_sub, ni_m1, nI_clamp, ni_in, nI_leI, nI_ltI, nI_eq, forall_eq, na_at, na_upd, Nat.zero_add, Nat.add_zero, r5]
    refine ⟨by omega, br_t (by omega) ?_⟩
    refine zy_copy (by omega) (by omega) (by omega) (by omega) ?_
    intro T2 hT2
    have en2 : 112 + Nn - (112 + (k + tx_z ar S k)) = Nn - (k + tx_z ar S k) := by omega
    rw [en2] at hT2 ⊢
    have hT2a := mx_app (n := Nn - (k + tx_z ar S k)) h3 hT2
    have eS : tx_t T1 (112 + (k + tx_z ar S k)) (Nn - (k + tx_z ar S k)) = tx_t S (k + tx_z ar S k) (Nn - (k + tx_z ar S k)) := tx_congr fun i hi => by
      rw [h2 _ (by omega), Nat.add_assoc]
      exact c2 _ (by omega)
    rw [eS, h4', hWl] at hT2a
    have en3 : 160 + W.length + (Nn - (k + tx_z ar S k)) = 160 + (mt_nl ar S b Nn k rl).length := by omega
    rw [en3]
    have h8 : ∀ k, T2 k < 8 := fun j => by rw [hT2]; split; exact h1 _; exact h1 _
    have es : nI (160 + (mt_nl ar S b Nn k rl).length) - nI 160 = nI (mt_nl ar S b Nn k rl).length := by
      rw [pk_sub (by omega)]
      congr 1
      omega
    rw [es]
    refine zy_copy (a := 160) (b := 112) (by omega) (by omega) (by omega) (by omega) ?_
    intro T3 hT3
    have en4 : 160 + (mt_nl ar S b Nn k rl).length - 160 = (mt_nl ar S b Nn k rl).length := by omega
    rw [en4] at hT3
    have h83 : ∀ k, T3 k < 8 := fun j => by rw [hT3]; split; exact h8 _; exact h8 _
    have eN : tx_t T3 112 (mt_nl ar S b Nn k rl).length = mt_nl ar S b Nn k rl := by
      have : tx_t T3 112 (mt_nl ar S b Nn k rl).length = tx_t T2 160 (mt_nl ar S b Nn k rl).length := tx_congr fun i hi => by
        rw [hT3, if_pos (by omega)]
        congr 1
        omega
      rw [this, hT2a]
    refine hJ T3 h83 (fun j hj => ?_) (fun i hi => ?_) hcomp
    · rw [hT3, if_neg (by omega), hT2, if_neg (by omega), h2 j (by omega)]
    · by_cases hin : i < (mt_nl ar S b Nn k rl).length
      · rw [if_pos hin, ← tx_get (T := T3) (mt_nl ar S b Nn k rl).length 112 i hin, eN]
      · rw [if_neg hin, hT3, if_neg (by omega), hT2, if_neg (by omega), h2 _ (by omega)]
        exact c2 i hi
  | succ d ih =>
    intro N i T1 W hN hi h1 h2 h3 hv h4
    obtain ⟨N, rfl⟩ : ∃ M, N = M + 1 := ⟨N - 1, by omega⟩
    have hl := congrArg List.length h4
    rw [List.length_append, List.length_append] at hl
    have t1 := c1 (16 * r + 8 + i)
    have eT := h2 (16 * r + 8 + i) (by omega)
    have el : tx_t T (16 * r + 8 + i) (d + 1) = T (16 * r + 8 + i) :: tx_t T (16 * r + 8 + (i + 1)) d := rfl
    rw [el] at hv h4 hl
    rw [mt_rlen] at hl
    have hv' := fun v hm => hv v (List.mem_cons_of_mem _ hm)
    have em : mt_r ar S b (T (16 * r + 8 + i) :: tx_t T (16 * r + 8 + (i + 1)) d) = (if T (16 * r + 8 + i) < 4 then [T (16 * r + 8 + i)] else tx_t S (b (T (16 * r + 8 + i)) - 1) (tx_z ar S (b (T (16 * r + 8 + i)) - 1))) ++ mt_r ar S b (tx_t T (16 * r + 8 + (i + 1)) d) := rfl
    rw [em] at h4
    by_cases ht : T (16 * r + 8 + i) < 4
    · rw [if_pos ht] at h4 hl
      have K := ih N (i + 1) (na_u T1 (160 + W.length) (T (16 * r + 8 + i))) (W ++ [T (16 * r + 8 + i)]) (by omega) (by omega) (fun j => by unfold na_u; split; exact t1; exact h1 j) (fun j hj => by rw [na_un (by omega)]; exact h2 j hj) (by
        rw [List.length_append]
        show tx_t _ 160 (W.length + 1) = _
        rw [tx_app]
        have q1 : tx_t (na_u T1 (160 + W.length) (T (16 * r + 8 + i))) 160 W.length = tx_t T1 160 W.length := tx_congr fun j hj => na_un (by omega)
        rw [q1, h3]
        show W ++ [na_u T1 (160 + W.length) (T (16 * r + 8 + i)) (160 + W.length)] = _
        rw [na_us]) hv' (by
        rw [← h4]
        simp only [List.append_assoc])
      rw [List.length_append] at K
      simp (disch := omega) only [wY_run_234, li_0, li_1, li_2, li_3, li_4, li_5, li_6, li_7, li_8, li_11, li_15, li_16, li_24, li_32, li_112, li_144, li_152, li_160, li_192, li_240, li_255, li_256, li_272, li_280, li_288, li_1295, li_1296, nI_add, pk_mul, pk_sub, ni_m1, nI_clamp, ni_in, nI_leI, nI_ltI, nI_eq, forall_eq, na_at, na_upd, Nat.zero_add, Nat.add_zero, r5, eT]
      exact ⟨by omega, br_f (by omega) ⟨by omega, br_f (by omega) ⟨by omega, K⟩⟩⟩
    · rw [if_neg ht] at h4 hl
      have hb := hv _ (List.mem_cons_self ..) (by omega)
      obtain ⟨q1, q2, q3⟩ := b1 _ hb
      have eb : y_bind (T (16 * r + 8 + i)) = nI (112 + (b (T (16 * r + 8 + i)) - 1)) := by
        rw [hbd _ t1]
        unfold my_b
        rw [if_neg hb]
        congr 1
        omega
      have eS : tx_t T1 (112 + (b (T (16 * r + 8 + i)) - 1)) (tx_z ar S (b (T (16 * r + 8 + i)) - 1)) = tx_t S (b (T (16 * r + 8 + i)) - 1) (tx_z ar S (b (T (16 * r + 8 + i)) - 1)) := tx_congr fun j hj => by
        rw [h2 _ (by omega), Nat.add_assoc]
        exact c2 _ (by omega)
      simp (disch := omega) only [wY_run_234, li_0, li_1, li_2, li_3, li_4, li_5, li_6, li_7, li_8, li_11, li_15, li_16, li_24, li_32, li_112, li_144, li_152, li_160, li_192, li_240, li_255, li_256, li_272, li_280, li_288, li_1295, li_1296, nI_add, pk_mul, pk_sub, ni_m1, nI_clamp, ni_in, nI_leI, nI_ltI, nI_eq, forall_eq, na_at, na_upd, Nat.zero_add, Nat.add_zero, r5, eT, eb]
      refine ⟨by omega, br_f (by omega) ⟨by omega, br_t (by omega) ⟨by omega, ?_⟩⟩⟩
      refine zy_end0 (n := tx_z ar S (b (T (16 * r + 8 + i)) - 1)) h1 hq (fd_A3 hA) (by omega) (by rw [eS]; exact q2) ?_
      refine ⟨by omega, ?_⟩
      refine zy_copy (by omega) (by omega) (by omega) (by omega) ?_
      intro T2 hT2
      have en2 : 112 + (b (T (16 * r + 8 + i)) - 1) + tx_z ar S (b (T (16 * r + 8 + i)) - 1) - (112 + (b (T (16 * r + 8 + i)) - 1)) = tx_z ar S (b (T (16 * r + 8 + i)) - 1) := by omega
      rw [en2] at hT2 ⊢
      have hap := mx_app (n := tx_z ar S (b (T (16 * r + 8 + i)) - 1)) h3 hT2
      rw [eS] at hap
      have K := ih N (i + 1) T2 (W ++ tx_t S (b (T (16 * r + 8 + i)) - 1) (tx_z ar S (b (T (16 * r + 8 + i)) - 1))) (by omega) (by omega) (fun j => by rw [hT2]; split; exact h1 _; exact h1 _) (fun j hj => by rw [hT2, if_neg (by omega)]; exact h2 j hj) (by
        rw [List.length_append, tx_len]
        exact hap) hv' (by
        rw [← h4]
        simp only [List.append_assoc])
      rw [List.length_append, tx_len, ← Nat.add_assoc 160] at K
      exact K
theorem zy_run86 {post : Int32 → SY → Prop} {J38 : Int32 → Int32 → Int32 → Int32 → Int32 → Int32 → Int32 → (Nat → Int32) → (Nat → Int32) → (Nat → Int32) → (Nat → Int32) → (Nat → Int32) → (Nat → Int32) → (Nat → Int32) → (Nat → Int32) → (Nat → Int32) → (Nat → Int32) → (Nat → Int32) → (Nat → Int32) → Prop} {x2 : Int32} {ar T S : Nat → Nat} {LL RR : Nat → List Nat} {Nn R k made cap : Nat} (hA : fd_A ar) (hq : ∀ t, t < 8 → y_ar t = nI (ar t)) (C : my_S ar T S Nn) (hL : my_L ar T y_len R LL) (hRR : ∀ r, r < R → my_R ar T y_len r (RR r)) (hV : ∀ r, r < R → ∀ v, v ∈ RR r → 4 ≤ v → v ∈ LL r) (hcap : cap ≤ 32) (hk : k < Nn) (hrd : mt_rd ar S LL R k) (hm : made < 100)
    (h3 : ∀ r b bd, r < R → (∀ r', r' < r → mt_m ar S (LL r') k (fun _ => 0) = none) → mt_m ar S (LL r) k (fun _ => 0) = some b → cap < (mt_nl ar S b Nn k (RR r)).length → post 3 (nI cap, y_phase, nI R, y_pairs, y_lines, nI Nn, na_F T, y_ar, y_len, y_pairAt, y_rec, y_digit, y_level, bd, y_hide, y_gt, y_fit, y_path))
    (hJ : ∀ r b bd T', r < R → (∀ r', r' < r → mt_m ar S (LL r') k (fun _ => 0) = none) → mt_m ar S (LL r) k (fun _ => 0) = some b → (mt_nl ar S b Nn k (RR r)).length ≤ cap → (∀ k, T' k < 8) → (∀ k, k < 112 → T' k = T k) → (∀ i, i < 32 → T' (112 + i) = if i < (mt_nl ar S b Nn k (RR r)).length then (mt_nl ar S b Nn k (RR r)).getD i 0 else S i) → tx_T ar (mt_nl ar S b Nn k (RR r)) →
      J38 (nI (made + 1)) (nI cap) y_phase (nI R) y_pairs y_lines (nI (mt_nl ar S b Nn k (RR r)).length) (na_F T') y_ar y_len y_pairAt y_rec y_digit y_level bd y_hide y_gt y_fit y_path) :
    wY_run_86 post J38 x2 (nI made) (nI (112 + k)) (nI cap) y_phase (nI R) y_pairs y_lines (nI Nn) (na_F T) y_ar y_len y_pairAt y_rec y_digit y_level y_bind y_hide y_gt y_fit y_path := by
  have C0 := C
  obtain ⟨c1, c2, c3, c4⟩ := C
  obtain ⟨z1, z2, z3⟩ := tx_subk c4 (by omega) (Nat.zero_le k) (by omega)
  refine br_t (nI_pos' (by omega)) ?_
  refine zy_ruleAt hA hq C0 hL hk (fun r b bd hr hmin e hbd => ?_) (fun bd hno => ?_)
  · have hR := hRR r hr
    have hok := mt_ok (a := ar) (S := S) (N := Nn) hA.2.2.2.2 (by omega) (LL r) k (fun _ => 0) b 1 (tx_z ar S k) (hL.2 r hr).2.2.1 z1 (by omega) (fun v hv => absurd rfl hv) e
    have hB : mx_B ar S Nn b (RR r) := ⟨hok.1, fun v hm h4 => hok.2.2 v (hV r hr v hm h4) h4⟩
    obtain ⟨r1, r2, r3, r4, r5⟩ := hR
    obtain ⟨b1, b2⟩ := hB
    have hlen := mt_nll (b := b) (rl := RR r) (show k + tx_z ar S k ≤ Nn by omega)
    refine br_t (nI_pos' (by omega)) ?_
    refine zy_end0 (n := tx_z ar S k) c1 hq (fd_A3 hA) (by omega) (by rw [my_t c2 (by omega)]; exact z1) ?_
    refine nm_r (e' := nI (Nn - tx_z ar S k)) ?_ ⟨(RR r).length + 1, ?_⟩
    · rw [pk_sub (by omega), pk_sub (by omega)]
      congr 1
      omega
    rw [Nat.add_assoc]
    have key : ∀ d N i tot, d < N → i + d = (RR r).length → tot < 10000 + 32 * i → (∀ v, v ∈ tx_t T (16 * r + 8 + i) d → 4 ≤ v → b v ≠ 0) → tot + (mt_r ar S b (tx_t T (16 * r + 8 + i) d)).length = (mt_nl ar S b Nn k (RR r)).length →
        wY_run_132 post J38 x2 (nI made) (nI (112 + k)) (nI r) (nI (112 + (k + tx_z ar S k))) (nI cap) y_phase (nI R) y_pairs y_lines (nI Nn) (na_F T) y_ar y_len y_pairAt y_rec y_digit y_level bd y_hide y_gt y_fit y_path N (nI tot) (nI i) := by
      intro d
      induction d with
      | zero =>
        intro N i tot hN hi ht hv h
        obtain ⟨N, rfl⟩ : ∃ M, N = M + 1 := ⟨N - 1, by omega⟩
        have h' : tot = (mt_nl ar S b Nn k (RR r)).length := h
        simp (disch := omega) only [wY_run_132, li_0, li_1, li_2, li_3, li_4, li_5, li_6, li_7, li_8, li_11, li_15, li_16, li_24, li_32, li_112, li_144, li_152, li_160, li_192, li_240, li_255, li_256, li_272, li_280, li_288, li_1295, li_1296, nI_add, pk_mul, pk_sub, ni_m1, nI_clamp, ni_in, nI_leI, nI_ltI, nI_eq, forall_eq, na_at, na_upd, Nat.zero_add, Nat.add_zero, r5]
        refine ⟨by omega, br_t (by omega) (br_c (fun hle => ?_) (fun hgt => h3 r b bd hr hmin e (by omega)))⟩
        refine zy_copy (a := 112) (b := 160) (by omega) (by omega) (by omega) (by omega) ?_
        intro T1 hT1
        have en0 : 112 + k - 112 = k := by omega
        rw [en0] at hT1 ⊢
        have hT1a : tx_t T1 160 k = tx_t S 0 k := tx_congr fun i hi => by
          rw [hT1, if_pos (by omega), show 112 + (160 + i - 160) = 112 + i by omega, Nat.zero_add]
          exact c2 _ (by omega)
        have K := zy_run234 (post := post) (J38 := J38) (x2 := x2) (made := made) (y_cap := nI cap) (y_phase := y_phase) (y_rules := nI R) (y_pairs := y_pairs) (y_lines := y_lines) (y_pairAt := y_pairAt) (y_rec := y_rec) (y_digit := y_digit) (y_level := y_level) (y_hide := y_hide) (y_gt := y_gt) (y_fit := y_fit) (y_path := y_path) hA hq C0 ⟨r1, r2, r3, r4, r5⟩ hk ⟨b1, b2⟩ hbd (by omega) hm (fun T' q1 q2 q3 q4 => hJ r b bd T' hr hmin e (by omega) q1 q2 q3 q4) (RR r).length ((RR r).length + 1) 0 T1 (tx_t S 0 k) (by omega) (by omega) (fun j => by rw [hT1]; split; exact c1 _; exact c1 _) (fun j hj => by rw [hT1, if_neg (by omega)]) (by rw [tx_len]; exact hT1a) (by rw [Nat.add_zero, r3]; exact b2) (by rw [Nat.add_zero, r3]; rfl)
        rw [tx_len] at K
        exact ⟨_, K⟩
      | succ d ih =>
        intro N i tot hN hi ht hv h
        obtain ⟨N, rfl⟩ : ∃ M, N = M + 1 := ⟨N - 1, by omega⟩
        have t1 := c1 (16 * r + 8 + i)
        have el : tx_t T (16 * r + 8 + i) (d + 1) = T (16 * r + 8 + i) :: tx_t T (16 * r + 8 + (i + 1)) d := rfl
        rw [el, mt_rlen] at h
        rw [el] at hv
        have hv' := fun v hm => hv v (List.mem_cons_of_mem _ hm)
        by_cases h4 : T (16 * r + 8 + i) < 4
        · rw [if_pos h4] at h
          have K := ih N (i + 1) (tot + 1) (by omega) (by omega) (by omega) hv' (by omega)
          simp (disch := omega) only [wY_run_132, li_0, li_1, li_2, li_3, li_4, li_5, li_6, li_7, li_8, li_11, li_15, li_16, li_24, li_32, li_112, li_144, li_152, li_160, li_192, li_240, li_255, li_256, li_272, li_280, li_288, li_1295, li_1296, nI_add, pk_mul, pk_sub, ni_m1, nI_clamp, ni_in, nI_leI, nI_ltI, nI_eq, forall_eq, na_at, na_upd, Nat.zero_add, Nat.add_zero, r5]
          exact ⟨by omega, br_f (by omega) ⟨by omega, br_f (by omega) K⟩⟩
        · rw [if_neg h4] at h
          have hb := hv _ (List.mem_cons_self ..) (by omega)
          obtain ⟨q1, q2, q3⟩ := b1 _ hb
          have eb : bd (T (16 * r + 8 + i)) = nI (112 + (b (T (16 * r + 8 + i)) - 1)) := by
            rw [hbd _ t1]
            unfold my_b
            rw [if_neg hb]
            congr 1
            omega
          have K := ih N (i + 1) (tot + tx_z ar S (b (T (16 * r + 8 + i)) - 1)) (by omega) (by omega) (by omega) hv' (by omega)
          have es : 112 + (b (T (16 * r + 8 + i)) - 1) + tx_z ar S (b (T (16 * r + 8 + i)) - 1) - (112 + (b (T (16 * r + 8 + i)) - 1)) = tx_z ar S (b (T (16 * r + 8 + i)) - 1) := by omega
          simp (disch := omega) only [wY_run_132, li_0, li_1, li_2, li_3, li_4, li_5, li_6, li_7, li_8, li_11, li_15, li_16, li_24, li_32, li_112, li_144, li_152, li_160, li_192, li_240, li_255, li_256, li_272, li_280, li_288, li_1295, li_1296, nI_add, pk_mul, pk_sub, ni_m1, nI_clamp, ni_in, nI_leI, nI_ltI, nI_eq, forall_eq, na_at, na_upd, Nat.zero_add, Nat.add_zero, r5, eb]
          refine ⟨by omega, br_f (by omega) ⟨by omega, br_t (by omega) ⟨by omega, ?_⟩⟩⟩
          refine zy_end0 (n := tx_z ar S (b (T (16 * r + 8 + i)) - 1)) c1 hq (fd_A3 hA) (by omega) (by rw [my_t c2 (by omega)]; exact q2) ?_
          refine ⟨by omega, ?_⟩
          rw [pk_sub (by omega), es, nI_add]
          exact K
    exact key (RR r).length _ 0 (Nn - tx_z ar S k) (by omega) (by omega) (by omega) (by rw [Nat.add_zero, r3]; exact b2) (by rw [Nat.add_zero, r3, hlen])
  · exfalso
    obtain ⟨r, hr, e⟩ := hrd
    exact e (hno r hr)
end
end
section
section
variable {x_pairSlot x_subjectBase x_filteredLeft x_filteredRight x_scratch x_allOrders x_equalMark x_termCells x_phase x_ruleCount x_pairCount x_lineCount x_defined x_openSide x_openMissing x_subjectLength x_subjectMissing : Int32} {x_tok x_end x_cut x_length x_precedences x_above x_greater x_relation x_arity x_shape x_kept x_bound x_links x_lines : Nat → Int32}
variable {y_cap y_phase y_rules y_pairs y_lines y_size : Int32} {y_m y_ar y_len y_pairAt y_rec y_digit y_level y_bind y_hide y_gt y_fit y_path : Nat → Int32}
/-! weak and strict under filter f and order o -/
def wk_w (ar : Nat → Nat) (f o : Nat) (l r : List Nat) : Prop := fd_f ar f l = fd_f ar f r ∨ po_V (fd_kp ar f) (pl_v (pl_T o)) (fd_f ar f l) (fd_f ar f r)
def wk_s (ar : Nat → Nat) (f o : Nat) (l r : List Nat) : Prop := fd_f ar f l ≠ fd_f ar f r ∧ po_V (fd_kp ar f) (pl_v (pl_T o)) (fd_f ar f l) (fd_f ar f r)
def wk_A (ar : Nat → Nat) (f o : Nat) (LL RR LP RP : Nat → List Nat) (R P : Nat) (st : Int32) : Prop := (∀ r, r < R → wk_w ar f o (LL r) (RR r)) ∧ ∀ p, p < P → bt st p = true → wk_w ar f o (LP p) (RP p)
/-- the work arrays of the component, over its texts TX0, en0 -/
def wk_X (TX0 en0 TX en ct : Nat → Nat) (gr : Nat → Int32) : Prop :=
  (∀ k, TX k < 8) ∧ (∀ k, k < 272 → TX k = TX0 k) ∧ (∀ k, k < 272 → en k = en0 k) ∧ (∀ k, ct k < 2) ∧ (∀ k, k < 30 → ct (k * 8) = 0) ∧ ∀ k o, 24 ≤ o → o < 32 → bt (gr k) o = false
theorem ox_Vs {ar : Nat → Nat} {f o : Nat} {l r : List Nat} {v : Int32} (h : ox_V (fd_kp ar f) (fun o => pl_v (pl_T o)) (fd_f ar f l) (fd_f ar f r) v) (ho : o < 24) : bt v o = true ↔ wk_s ar f o l r := by
  unfold wk_s
  by_cases e : fd_f ar f l = fd_f ar f r
  · rw [h.1 e, zb_mark o (by omega)]
    exact ⟨fun z => absurd (of_decide_eq_true z) (by omega), fun z => absurd e z.1⟩
  · rw [(h.2 e).2 o ho]
    exact ⟨fun z => ⟨e, z⟩, fun z => z.2⟩
theorem ox_Vm {ar : Nat → Nat} {f : Nat} {l r : List Nat} {v : Int32} (h : ox_V (fd_kp ar f) (fun o => pl_v (pl_T o)) (fd_f ar f l) (fd_f ar f r) v) : v = 16777216 ↔ fd_f ar f l = fd_f ar f r := by
  refine ⟨fun e => ?_, h.1⟩
  apply Classical.byContradiction
  intro hn
  have := (h.2 hn).1 24 (by omega) (by omega)
  rw [e, zb_mark 24 (by omega)] at this
  exact absurd this (by decide)
theorem ox_Vw {ar : Nat → Nat} {f o : Nat} {l r : List Nat} {v x : Int32} (h : ox_V (fd_kp ar f) (fun o => pl_v (pl_T o)) (fd_f ar f l) (fd_f ar f r) v) (ho : o < 32) (hx : 24 ≤ o → bt x o = false) :
    (bt (x &&& 16777215) o = true ↔ bt x o = true) ∧ (v ≠ 16777216 → (bt (x &&& v) o = true ↔ bt x o = true ∧ wk_w ar f o l r)) ∧ (v = 16777216 → wk_w ar f o l r) := by
  refine ⟨?_, fun hv => ?_, fun hv => Or.inl ((ox_Vm h).mp hv)⟩
  · rw [b_and, zb_all o ho, Bool.and_eq_true]
    by_cases h24 : o < 24
    · exact ⟨fun z => z.1, fun z => ⟨z, decide_eq_true h24⟩⟩
    · rw [hx (by omega)]
      exact ⟨fun z => z.1, fun z => absurd z (by decide)⟩
  · have hne : ¬ fd_f ar f l = fd_f ar f r := fun e => hv (h.1 e)
    rw [b_and, Bool.and_eq_true]
    by_cases h24 : o < 24
    · rw [(h.2 hne).2 o h24]
      unfold wk_w
      exact ⟨fun z => ⟨z.1, Or.inr z.2⟩, fun z => ⟨z.1, z.2.resolve_left hne⟩⟩
    · rw [hx (by omega)]
      exact ⟨fun z => absurd z.1 (by decide), fun z => absurd z.1 (by decide)⟩
theorem zx_relW {post : Int32 → SX → Prop} {TX0 en0 TX en ct ar sh kp : Nat → Nat} {gr : Nat → Int32} {f s : Nat} {l r : List Nat} (hA : fd_A ar) (hf : fd_L ar f)
    (hq : ∀ t, t < 8 → x_arity t = nI (ar t)) (hsh : ∀ t, t < 8 → sh t = fk_x (ar t) (fd_g f t)) (hkp : ∀ t, t < 8 → kp t = fd_kp ar f t) (hab : pl_A x_above)
    (hW : wk_X TX0 en0 TX en ct gr) (hs : s < 15) (hS : ox_S ar TX0 en0 s l r)
    (hp : ∀ TX' en' ct' gr' v, wk_X TX0 en0 TX' en' ct' gr' → ox_V (fd_kp ar f) (fun o => pl_v (pl_T o)) (fd_f ar f l) (fd_f ar f r) v → post v (x_pairSlot, x_subjectBase, x_filteredLeft, x_filteredRight, x_scratch, x_allOrders, x_equalMark, x_termCells, x_phase, x_ruleCount, x_pairCount, x_lineCount, x_defined, x_openSide, x_openMissing, x_subjectLength, x_subjectMissing, na_F TX', na_F en', na_F ct', x_length, x_precedences, x_above, gr', x_relation, x_arity, na_F sh, na_F kp, x_bound, x_links, x_lines)) :
    wpX_relate post (x_pairSlot, x_subjectBase, x_filteredLeft, x_filteredRight, x_scratch, x_allOrders, x_equalMark, x_termCells, x_phase, x_ruleCount, x_pairCount, x_lineCount, x_defined, x_openSide, x_openMissing, x_subjectLength, x_subjectMissing, na_F TX, na_F en, na_F ct, x_length, x_precedences, x_above, gr, x_relation, x_arity, na_F sh, na_F kp, x_bound, x_links, x_lines) (nI s) := by
  obtain ⟨w1, w2, w3, w4, w5, w6⟩ := hW
  refine zx_relate (lv := fun o => pl_v (pl_T o)) hA hf w1 hq hsh hkp hab w6 w4 w5 hs (ox_Sk hS (fun k h1 h2 => w2 k (by omega)) (fun k h1 h2 => w3 k (by omega))) ?_
  intro T' en' ct' gr' v q1 q2 q3 q4 q5 q6 q7
  exact hp T' en' ct' gr' v ⟨q1, fun k hk => by rw [q2 k (Or.inl hk), w2 k hk], fun k hk => by rw [q3 k (Or.inl hk), w3 k hk], q4, q5, q6⟩ q7
/-- the loaded filter -/
def wk_F (ar : Nat → Nat) (f : Nat) (sh kp : Nat → Nat) : Prop := (∀ t, t < 8 → sh t = fk_x (ar t) (fd_g f t)) ∧ ∀ t, t < 8 → kp t = fd_kp ar f t
/-- the slots of rules and pairs -/
def wk_T (ar TX0 en0 : Nat → Nat) (LL RR LP RP : Nat → List Nat) (R P : Nat) : Prop := R ≤ 6 ∧ P ≤ 8 ∧ (∀ r, r < R → ox_S ar TX0 en0 r (LL r) (RR r)) ∧ ∀ p, p < P → ox_S ar TX0 en0 (7 + p) (LP p) (RP p)
def wk_R (ar : Nat → Nat) (f : Nat) (LP RP : Nat → List Nat) (P : Nat) (st : Int32) (rl : Nat → Int32) : Prop := ∀ p, p < P → bt st p = true → ox_V (fd_kp ar f) (fun o => pl_v (pl_T o)) (fd_f ar f (LP p)) (fd_f ar f (RP p)) (rl p)
theorem zx_wo49 {post : Int32 → SX → Prop} {TX0 en0 ar sh kp : Nat → Nat} {LL RR LP RP : Nat → List Nat} {st : Int32} {f R P : Nat} (hA : fd_A ar) (hf : fd_L ar f)
    (hq : ∀ t, t < 8 → x_arity t = nI (ar t)) (hF : wk_F ar f sh kp) (hab : pl_A x_above) (hT : wk_T ar TX0 en0 LL RR LP RP R P)
    (hp : ∀ x TX en ct gr rl, wk_X TX0 en0 TX en ct gr → (∀ o, o < 32 → (bt x o = true ↔ o < 24 ∧ wk_A ar f o LL RR LP RP R P st)) → (x ≠ 0 → wk_R ar f LP RP P st rl) →
      post x (x_pairSlot, x_subjectBase, x_filteredLeft, x_filteredRight, x_scratch, x_allOrders, x_equalMark, x_termCells, x_phase, x_ruleCount, nI P, x_lineCount, x_defined, x_openSide, x_openMissing, x_subjectLength, x_subjectMissing, na_F TX, na_F en, na_F ct, x_length, x_precedences, x_above, gr, rl, x_arity, na_F sh, na_F kp, x_bound, x_links, x_lines)) :
    ∀ d N p x TX en ct gr rl, d < N → p + d = P → wk_X TX0 en0 TX en ct gr →
      (∀ o, o < 32 → (bt x o = true ↔ o < 24 ∧ (∀ r, r < R → wk_w ar f o (LL r) (RR r)) ∧ ∀ p', p' < p → bt st p' = true → wk_w ar f o (LP p') (RP p'))) →
      (∀ p', p' < p → bt st p' = true → ox_V (fd_kp ar f) (fun o => pl_v (pl_T o)) (fd_f ar f (LP p')) (fd_f ar f (RP p')) (rl p')) →
      wX_weakOrders_49 post st N x (nI p) x_pairSlot x_subjectBase x_filteredLeft x_filteredRight x_scratch x_allOrders x_equalMark x_termCells x_phase x_ruleCount (nI P) x_lineCount x_defined x_openSide x_openMissing x_subjectLength x_subjectMissing (na_F TX) (na_F en) (na_F ct) x_length x_precedences x_above gr rl x_arity (na_F sh) (na_F kp) x_bound x_links x_lines := by
  obtain ⟨t1, t2, t3, t4⟩ := hT
  intro d
  induction d with
  | zero =>
    intro N p x TX en ct gr rl hN hpd hW hx hr
    obtain ⟨N, rfl⟩ : ∃ M, N = M + 1 := ⟨N - 1, by omega⟩
    refine br_t (nI_le (by omega) (by omega)) (hp x TX en ct gr rl hW (fun o ho => ?_) (fun _ p' hp' => hr p' (by omega)))
    rw [hx o ho]
    have e : p = P := by omega
    rw [e]
    exact Iff.rfl
  | succ d ih =>
    intro N p x TX en ct gr rl hN hpd hW hx hr
    obtain ⟨N, rfl⟩ : ∃ M, N = M + 1 := ⟨N - 1, by omega⟩
    refine br_f (nI_ge (by omega) (by omega)) ?_
    by_cases hx0 : x = 0
    · refine br_t hx0 (hp x TX en ct gr rl hW (fun o ho => ⟨fun z => ?_, fun ⟨z1, z2, z3⟩ => (hx o ho).mpr ⟨z1, z2, fun p' hp' => z3 p' (by omega)⟩⟩) (fun z => absurd hx0 z))
      rw [hx0, b_0] at z
      exact absurd z (by decide)
    · refine br_f hx0 ?_
      have q := zb_q (n := p) (by omega) st
      by_cases hb : bt st p = true
      · refine br_f (fun z => by rw [q.mp z] at hb; exact absurd hb (by decide)) ?_
        rw [show (7 : Int32) + nI p = nI (7 + p) from nI_add 7 p]
        refine zx_relW hA hf hq hF.1 hF.2 hab hW (by omega) (t4 p (by omega)) ?_
        intro TX' en' ct' gr' v hW' hv
        refine ⟨vp_in_nI (by omega) (by omega), ?_⟩
        rw [nI_clamp (by omega)]
        refine nm_e ⟨vp_in_nI (by omega) (by omega), ?_⟩
        rw [pk_us]
        have hr' : ∀ p', p' < p + 1 → bt st p' = true → ox_V (fd_kp ar f) (fun o => pl_v (pl_T o)) (fd_f ar f (LP p')) (fd_f ar f (RP p')) (upd rl p v p') := by
          intro p' hp' hb'
          by_cases e : p' = p
          · rw [e, pk_us]; exact hv
          · rw [pk_un e]; exact hr p' (by omega) hb'
        have hi : ∀ o, 24 ≤ o → o < 32 → bt x o = false := by
          intro o h1 h2
          cases hbo : bt x o with
          | false => rfl
          | true => exact absurd ((hx o h2).mp hbo).1 (by omega)
        by_cases hm : v = 16777216
        · refine br_t hm ?_
          refine nm_e (nm_r (e' := nI (p + 1)) (nI_1 p) ?_)
          refine ih N (p + 1) _ TX' en' ct' gr' _ (by omega) (by omega) hW' (fun o ho => ?_) hr'
          obtain ⟨e1, e2, e3⟩ := ox_Vw (x := x) hv ho (fun z => hi o z ho)
          rw [e1, hx o ho]
          constructor
          · rintro ⟨z1, z2, z3⟩
            refine ⟨z1, z2, fun p' hp' hb' => ?_⟩
            by_cases e : p' = p
            · rw [e]; exact e3 hm
            · exact z3 p' (by omega) hb'
          · rintro ⟨z1, z2, z3⟩
            exact ⟨z1, z2, fun p' hp' => z3 p' (by omega)⟩
        · refine br_f hm ⟨vp_in_nI (by omega) (by omega), ?_⟩
          refine nm_e (nm_r (e' := nI (p + 1)) (nI_1 p) ?_)
          refine ih N (p + 1) _ TX' en' ct' gr' _ (by omega) (by omega) hW' (fun o ho => ?_) hr'
          obtain ⟨e1, e2, e3⟩ := ox_Vw (x := x) hv ho (fun z => hi o z ho)
          rw [e2 hm, hx o ho]
          constructor
          · rintro ⟨⟨z1, z2, z3⟩, z4⟩
            refine ⟨z1, z2, fun p' hp' hb' => ?_⟩
            by_cases e : p' = p
            · rw [e]; exact z4
            · exact z3 p' (by omega) hb'
          · rintro ⟨z1, z2, z3⟩
            exact ⟨⟨z1, z2, fun p' hp' => z3 p' (by omega)⟩, z3 p (by omega) hb⟩
      · have hbf : bt st p = false := by cases h : bt st p; rfl; exact absurd h hb
        refine br_t (q.mpr hbf) ?_
        refine nm_r (e' := nI (p + 1)) (nI_1 p) ?_
        refine ih N (p + 1) x TX en ct gr rl (by omega) (by omega) hW (fun o ho => ?_) (fun p' hp' hb' => ?_)
        · rw [hx o ho]
          constructor
          · rintro ⟨z1, z2, z3⟩
            refine ⟨z1, z2, fun p' hp' hb' => ?_⟩
            by_cases e : p' = p
            · rw [e] at hb'; exact absurd hb' hb
            · exact z3 p' (by omega) hb'
          · rintro ⟨z1, z2, z3⟩
            exact ⟨z1, z2, fun p' hp' => z3 p' (by omega)⟩
        · by_cases e : p' = p
          · rw [e] at hb'; exact absurd hb' hb
          · exact hr p' (by omega) hb'
theorem zx_weak {post : Int32 → SX → Prop} {TX0 en0 TX en ct ar sh kp : Nat → Nat} {gr rl : Nat → Int32} {LL RR LP RP : Nat → List Nat} {st : Int32} {f R P : Nat} (hA : fd_A ar) (hf : fd_L ar f)
    (hq : ∀ t, t < 8 → x_arity t = nI (ar t)) (hF : wk_F ar f sh kp) (hab : pl_A x_above) (hT : wk_T ar TX0 en0 LL RR LP RP R P) (hW : wk_X TX0 en0 TX en ct gr)
    (hp : ∀ x TX en ct gr rl, wk_X TX0 en0 TX en ct gr → (∀ o, o < 32 → (bt x o = true ↔ o < 24 ∧ wk_A ar f o LL RR LP RP R P st)) → (x ≠ 0 → wk_R ar f LP RP P st rl) →
      post x (x_pairSlot, x_subjectBase, x_filteredLeft, x_filteredRight, x_scratch, x_allOrders, x_equalMark, x_termCells, x_phase, nI R, nI P, x_lineCount, x_defined, x_openSide, x_openMissing, x_subjectLength, x_subjectMissing, na_F TX, na_F en, na_F ct, x_length, x_precedences, x_above, gr, rl, x_arity, na_F sh, na_F kp, x_bound, x_links, x_lines)) :
    wpX_weakOrders post (x_pairSlot, x_subjectBase, x_filteredLeft, x_filteredRight, x_scratch, x_allOrders, x_equalMark, x_termCells, x_phase, nI R, nI P, x_lineCount, x_defined, x_openSide, x_openMissing, x_subjectLength, x_subjectMissing, na_F TX, na_F en, na_F ct, x_length, x_precedences, x_above, gr, rl, x_arity, na_F sh, na_F kp, x_bound, x_links, x_lines) st := by
  have hT0 := hT
  obtain ⟨t1, t2, t3, t4⟩ := hT
  have fin : ∀ x TX en ct gr, wk_X TX0 en0 TX en ct gr → (∀ o, o < 32 → (bt x o = true ↔ o < 24 ∧ ∀ r, r < R → wk_w ar f o (LL r) (RR r))) →
      ∃ n49, wX_weakOrders_49 post st n49 x 0 x_pairSlot x_subjectBase x_filteredLeft x_filteredRight x_scratch x_allOrders x_equalMark x_termCells x_phase (nI R) (nI P) x_lineCount x_defined x_openSide x_openMissing x_subjectLength x_subjectMissing (na_F TX) (na_F en) (na_F ct) x_length x_precedences x_above gr rl x_arity (na_F sh) (na_F kp) x_bound x_links x_lines := by
    intro x TX en ct gr hW hx
    refine ⟨P + 1, zx_wo49 hA hf hq hF hab hT0 hp P (P + 1) 0 x TX en ct gr rl (by omega) (by omega) hW (fun o ho => ?_) (fun p' hp' => by omega)⟩
    rw [hx o ho]
    exact ⟨fun z => ⟨z.1, z.2, fun p' hp' => by omega⟩, fun z => ⟨z.1, z.2.1⟩⟩
  have key : ∀ d N r x TX en ct gr, d < N → r + d = R → wk_X TX0 en0 TX en ct gr → (∀ o, o < 32 → (bt x o = true ↔ o < 24 ∧ ∀ r', r' < r → wk_w ar f o (LL r') (RR r'))) →
      wX_weakOrders_5 post st N x (nI r) x_pairSlot x_subjectBase x_filteredLeft x_filteredRight x_scratch x_allOrders x_equalMark x_termCells x_phase (nI R) (nI P) x_lineCount x_defined x_openSide x_openMissing x_subjectLength x_subjectMissing (na_F TX) (na_F en) (na_F ct) x_length x_precedences x_above gr rl x_arity (na_F sh) (na_F kp) x_bound x_links x_lines := by
    intro d
    induction d with
    | zero =>
      intro N r x TX en ct gr hN hrd hW hx
      obtain ⟨N, rfl⟩ : ∃ M, N = M + 1 := ⟨N - 1, by omega⟩
      have e : r = R := by omega
      rw [e] at hx
      exact br_t (nI_le (by omega) (by omega)) (fin x TX en ct gr hW hx)
    | succ d ih =>
      intro N r x TX en ct gr hN hrd hW hx
      obtain ⟨N, rfl⟩ : ∃ M, N = M + 1 := ⟨N - 1, by omega⟩
      refine br_f (nI_ge (by omega) (by omega)) ?_
      by_cases hx0 : x = 0
      · refine br_t hx0 (fin x TX en ct gr hW (fun o ho => ⟨fun z => ?_, fun z => (hx o ho).mpr ⟨z.1, fun r' hr' => z.2 r' (by omega)⟩⟩))
        rw [hx0, b_0] at z
        exact absurd z (by decide)
      · refine br_f hx0 ?_
        refine zx_relW hA hf hq hF.1 hF.2 hab hW (by omega) (t3 r (by omega)) ?_
        intro TX' en' ct' gr' v hW' hv
        have hi : ∀ o, 24 ≤ o → o < 32 → bt x o = false := by
          intro o h1 h2
          cases hbo : bt x o with
          | false => rfl
          | true => exact absurd ((hx o h2).mp hbo).1 (by omega)
        by_cases hm : v = 16777216
        · refine br_t hm ?_
          refine nm_e (nm_r (e' := nI (r + 1)) (nI_1 r) ?_)
          refine ih N (r + 1) _ TX' en' ct' gr' (by omega) (by omega) hW' (fun o ho => ?_)
          obtain ⟨e1, e2, e3⟩ := ox_Vw (x := x) hv ho (fun z => hi o z ho)
          rw [e1, hx o ho]
          constructor
          · rintro ⟨z1, z2⟩
            refine ⟨z1, fun r' hr' => ?_⟩
            by_cases e : r' = r
            · rw [e]; exact e3 hm
            · exact z2 r' (by omega)
          · rintro ⟨z1, z2⟩
            exact ⟨z1, fun r' hr' => z2 r' (by omega)⟩
        · refine br_f hm ?_
          refine nm_e (nm_r (e' := nI (r + 1)) (nI_1 r) ?_)
          refine ih N (r + 1) _ TX' en' ct' gr' (by omega) (by omega) hW' (fun o ho => ?_)
          obtain ⟨e1, e2, e3⟩ := ox_Vw (x := x) hv ho (fun z => hi o z ho)
          rw [e2 hm, hx o ho]
          constructor
          · rintro ⟨⟨z1, z2⟩, z4⟩
            refine ⟨z1, fun r' hr' => ?_⟩
            by_cases e : r' = r
            · rw [e]; exact z4
            · exact z2 r' (by omega)
          · rintro ⟨z1, z2⟩
            exact ⟨⟨z1, fun r' hr' => z2 r' (by omega)⟩, z2 r (by omega)⟩
  refine ⟨R + 1, key R (R + 1) 0 _ TX en ct gr (by omega) (by omega) hW (fun o ho => ?_)⟩
  rw [zb_all o ho]
  exact ⟨fun z => ⟨of_decide_eq_true z, fun r' hr' => by omega⟩, fun z => decide_eq_true z.1⟩
theorem zx_lowest {post : Int32 → Prop} {x : Int32} (h1 : ∀ i, i < 24 → bt x i = true → (∀ j, j < i → bt x j = false) → post (nI i)) (h0 : (∀ i, i < 24 → bt x i = false) → post 0) : wpX_lowestBit post (x_pairSlot, x_subjectBase, x_filteredLeft, x_filteredRight, x_scratch, x_allOrders, x_equalMark, x_termCells, x_phase, x_ruleCount, x_pairCount, x_lineCount, x_defined, x_openSide, x_openMissing, x_subjectLength, x_subjectMissing, x_tok, x_end, x_cut, x_length, x_precedences, x_above, x_greater, x_relation, x_arity, x_shape, x_kept, x_bound, x_links, x_lines) x := by
  have key : ∀ d N i, d < N → i + d = 24 → (∀ j, j < i → bt x j = false) → wX_lowestBit_2 post x x_pairSlot x_subjectBase x_filteredLeft x_filteredRight x_scratch x_allOrders x_equalMark x_termCells x_phase x_ruleCount x_pairCount x_lineCount x_defined x_openSide x_openMissing x_subjectLength x_subjectMissing x_tok x_end x_cut x_length x_precedences x_above x_greater x_relation x_arity x_shape x_kept x_bound x_links x_lines N (nI i) := by
    intro d
    induction d with
    | zero =>
      intro N i hN hi h
      obtain ⟨N, rfl⟩ : ∃ M, N = M + 1 := ⟨N - 1, by omega⟩
      exact br_t (nI_le (a := 24) (by omega) (by omega)) (h0 fun j hj => h j (by omega))
    | succ d ih =>
      intro N i hN hi h
      obtain ⟨N, rfl⟩ : ∃ M, N = M + 1 := ⟨N - 1, by omega⟩
      refine br_f (nI_ge (b := 24) (by omega) (by omega)) ?_
      have q := zb_q (n := i) (by omega) x
      cases hb : bt x i with
      | true => exact br_f (fun z => by rw [q.mp z] at hb; exact absurd hb (by decide)) (h1 i (by omega) hb h)
      | false =>
        refine br_t (q.mpr hb) ?_
        refine nm_r (e' := nI (i + 1)) (nI_1 i) (ih N (i + 1) (by omega) (by omega) (fun j hj => ?_))
        by_cases e : j = i
        · rw [e]; exact hb
        · exact h j (by omega)
  exact ⟨25, key 24 25 0 (by omega) (by omega) (fun j hj => by omega)⟩
/-- the strict pairs of a set, as bits -/
def wk_b (ar : Nat → Nat) (f o : Nat) (LP RP : Nat → List Nat) (P : Nat) (st d : Int32) : Prop := ∀ p, p < 32 → (bt d p = true ↔ p < P ∧ bt st p = true ∧ wk_s ar f o (LP p) (RP p))
theorem zx_strict {post : Int32 → Prop} {ar : Nat → Nat} {LP RP : Nat → List Nat} {st : Int32} {f o P : Nat} (hP : P ≤ 8) (ho : o < 24) (hR : wk_R ar f LP RP P st x_relation)
    (hp : ∀ d, wk_b ar f o LP RP P st d → post d) : wpX_strictPairs post (x_pairSlot, x_subjectBase, x_filteredLeft, x_filteredRight, x_scratch, x_allOrders, x_equalMark, x_termCells, x_phase, x_ruleCount, nI P, x_lineCount, x_defined, x_openSide, x_openMissing, x_subjectLength, x_subjectMissing, x_tok, x_end, x_cut, x_length, x_precedences, x_above, x_greater, x_relation, x_arity, x_shape, x_kept, x_bound, x_links, x_lines) st (nI o) := by
  have key : ∀ d N p x, d < N → p + d = P → (∀ s, s < 32 → (bt x s = true ↔ s < p ∧ bt (x_relation s) o = true)) → wX_strictPairs_5 post st (nI o) x_pairSlot x_subjectBase x_filteredLeft x_filteredRight x_scratch x_allOrders x_equalMark x_termCells x_phase x_ruleCount (nI P) x_lineCount x_defined x_openSide x_openMissing x_subjectLength x_subjectMissing x_tok x_end x_cut x_length x_precedences x_above x_greater x_relation x_arity x_shape x_kept x_bound x_links x_lines N x (nI p) := by
    intro d
    induction d with
    | zero =>
      intro N p x hN hpd h
      obtain ⟨N, rfl⟩ : ∃ M, N = M + 1 := ⟨N - 1, by omega⟩
      refine br_t (nI_le (by omega) (by omega)) (hp _ fun s hs => ?_)
      rw [b_and, Bool.and_eq_true, h s hs]
      have e : p = P := by omega
      rw [e]
      constructor
      · rintro ⟨⟨z1, z2⟩, z3⟩
        exact ⟨z1, z3, (ox_Vs (hR s z1 z3) ho).mp z2⟩
      · rintro ⟨z1, z2, z3⟩
        exact ⟨⟨z1, (ox_Vs (hR s z1 z2) ho).mpr z3⟩, z2⟩
    | succ d ih =>
      intro N p x hN hpd h
      obtain ⟨N, rfl⟩ : ∃ M, N = M + 1 := ⟨N - 1, by omega⟩
      refine br_f (nI_ge (by omega) (by omega)) ⟨vp_in_nI (by omega) (by omega), ?_⟩
      rw [nI_clamp (by omega)]
      have e := zb_v (n := o) (by omega) (x_relation p)
      have e' : ((x_relation p >>> (nI o &&& 31)) &&& 1) = nI (if bt (x_relation p) o then 1 else 0) := e
      rw [e']
      refine nm_e (nm_r (e' := nI (p + 1)) (nI_1 p) ?_)
      refine ih N (p + 1) _ (by omega) (by omega) (fun s hs => ?_)
      rw [b_or, Bool.or_eq_true, zb_bit (by omega) hs, Bool.and_eq_true, h s hs]
      constructor
      · rintro (⟨z1, z2⟩ | ⟨z1, z2⟩)
        · exact ⟨by omega, z2⟩
        · have := of_decide_eq_true z2
          rw [this]
          exact ⟨by omega, z1⟩
      · rintro ⟨z1, z2⟩
        by_cases e2 : s = p
        · rw [e2] at z2
          exact Or.inr ⟨z2, decide_eq_true e2⟩
        · exact Or.inl ⟨by omega, z2⟩
  exact ⟨P + 1, key P (P + 1) 0 0 (by omega) (by omega) (fun s hs => ⟨fun z => absurd z (by rw [b_0]; decide), fun z => by omega⟩)⟩
/-- solutions of a filter -/
def wk_So (ar : Nat → Nat) (LL RR LP RP : Nat → List Nat) (R P : Nat) (st : Int32) (f o : Nat) : Prop := fd_L ar f ∧ o < 24 ∧ wk_A ar f o LL RR LP RP R P st ∧ ∃ p, p < P ∧ bt st p = true ∧ wk_s ar f o (LP p) (RP p)
theorem zx_solutions {post : Int32 → SX → Prop} {TX0 en0 TX en ct ar sh kp : Nat → Nat} {gr rl : Nat → Int32} {LL RR LP RP : Nat → List Nat} {st : Int32} {f R P : Nat} (hA : fd_A ar) (hf : fd_L ar f)
    (hq : ∀ t, t < 8 → x_arity t = nI (ar t)) (hs : ∀ t, t < 8 → 4 ≤ t → sh t = 4 ∧ kp t = 0) (hab : pl_A x_above) (hT : wk_T ar TX0 en0 LL RR LP RP R P) (hW : wk_X TX0 en0 TX en ct gr)
    (hp : ∀ x TX en ct gr rl sh kp, wk_X TX0 en0 TX en ct gr → (∀ t, t < 8 → 4 ≤ t → sh t = 4 ∧ kp t = 0) → (∀ o, o < 32 → (bt x o = true ↔ wk_So ar LL RR LP RP R P st f o)) → (x ≠ 0 → wk_R ar f LP RP P st rl) →
      post x (x_pairSlot, x_subjectBase, x_filteredLeft, x_filteredRight, x_scratch, x_allOrders, x_equalMark, x_termCells, x_phase, nI R, nI P, x_lineCount, x_defined, x_openSide, x_openMissing, x_subjectLength, x_subjectMissing, na_F TX, na_F en, na_F ct, x_length, x_precedences, x_above, gr, rl, x_arity, na_F sh, na_F kp, x_bound, x_links, x_lines)) :
    wpX_solutions post (x_pairSlot, x_subjectBase, x_filteredLeft, x_filteredRight, x_scratch, x_allOrders, x_equalMark, x_termCells, x_phase, nI R, nI P, x_lineCount, x_defined, x_openSide, x_openMissing, x_subjectLength, x_subjectMissing, na_F TX, na_F en, na_F ct, x_length, x_precedences, x_above, gr, rl, x_arity, na_F sh, na_F kp, x_bound, x_links, x_lines) st (nI f) := by
  refine zx_load hA hf hq hs ?_
  intro sh' kp' hsh hkp
  have hs' : ∀ t, t < 8 → 4 ≤ t → sh' t = 4 ∧ kp' t = 0 := by
    intro t h8 h4
    rw [hsh t h8, hkp t h8, hA.2.2.2.2 t h4, fd_kpv hA f h4]
    exact ⟨rfl, rfl⟩
  refine zx_weak hA hf hq ⟨hsh, hkp⟩ hab hT hW ?_
  intro x TX' en' ct' gr' rl' hW' hx hR
  have hP := hT.2.1
  have key : ∀ d N p y, d < N → p + d = P → (x ≠ 0 → ∀ o, o < 24 → (bt y o = true ↔ ∃ p', p' < p ∧ bt st p' = true ∧ wk_s ar f o (LP p') (RP p'))) →
      wX_solutions_17 post st x x_pairSlot x_subjectBase x_filteredLeft x_filteredRight x_scratch x_allOrders x_equalMark x_termCells x_phase (nI R) (nI P) x_lineCount x_defined x_openSide x_openMissing x_subjectLength x_subjectMissing (na_F TX') (na_F en') (na_F ct') x_length x_precedences x_above gr' rl' x_arity (na_F sh') (na_F kp') x_bound x_links x_lines N y (nI p) := by
    intro d
    induction d with
    | zero =>
      intro N p y hN hpd h
      obtain ⟨N, rfl⟩ : ∃ M, N = M + 1 := ⟨N - 1, by omega⟩
      have e : p = P := by omega
      rw [e] at h
      refine br_t (nI_le (by omega) (by omega)) (hp _ TX' en' ct' gr' rl' sh' kp' hW' hs' (fun o ho => ?_) (fun z => hR fun z2 => z ?_))
      · rw [b_and, Bool.and_eq_true, hx o ho]
        constructor
        · rintro ⟨⟨z1, z2⟩, z3⟩
          have hx0 : x ≠ 0 := by
            intro e0
            have := (hx o ho).mpr ⟨z1, z2⟩
            rw [e0, b_0] at this
            exact absurd this (by decide)
          exact ⟨hf, z1, z2, (h hx0 o z1).mp z3⟩
        · rintro ⟨_, z1, z2, z3⟩
          have hx0 : x ≠ 0 := by
            intro e0
            have := (hx o ho).mpr ⟨z1, z2⟩
            rw [e0, b_0] at this
            exact absurd this (by decide)
          exact ⟨⟨z1, z2⟩, (h hx0 o z1).mpr z3⟩
      · rw [z2]
        apply b_ext
        intro i _
        rw [b_and, b_0]
        rfl
    | succ d ih =>
      intro N p y hN hpd h
      obtain ⟨N, rfl⟩ : ∃ M, N = M + 1 := ⟨N - 1, by omega⟩
      refine br_f (nI_ge (by omega) (by omega)) ?_
      have q := zb_q (n := p) (by omega) st
      cases hb : bt st p with
      | true =>
        refine br_f (fun z => by rw [q.mp z] at hb; exact absurd hb (by decide)) ⟨vp_in_nI (by omega) (by omega), ?_⟩
        rw [nI_clamp (by omega)]
        refine nm_e (nm_r (e' := nI (p + 1)) (nI_1 p) (ih N (p + 1) _ (by omega) (by omega) (fun hx0 o ho => ?_)))
        rw [b_or, Bool.or_eq_true, h hx0 o ho, ox_Vs (hR hx0 p (by omega) hb) ho]
        constructor
        · rintro (⟨p', z1, z2⟩ | z)
          · exact ⟨p', by omega, z2⟩
          · exact ⟨p, by omega, hb, z⟩
        · rintro ⟨p', z1, z2, z3⟩
          by_cases e : p' = p
          · rw [e] at z3; exact Or.inr z3
          · exact Or.inl ⟨p', by omega, z2, z3⟩
      | false =>
        refine br_t (q.mpr hb) ?_
        refine nm_e (nm_r (e' := nI (p + 1)) (nI_1 p) (ih N (p + 1) _ (by omega) (by omega) (fun hx0 o ho => ?_)))
        rw [b_or, b_0, Bool.or_false, h hx0 o ho]
        constructor
        · rintro ⟨p', z1, z2⟩
          exact ⟨p', by omega, z2⟩
        · rintro ⟨p', z1, z2, z3⟩
          by_cases e : p' = p
          · rw [e, hb] at z2; exact absurd z2 (by decide)
          · exact ⟨p', by omega, z2, z3⟩
  exact ⟨P + 1, key P (P + 1) 0 0 (by omega) (by omega) (fun _ o ho => ⟨fun z => absurd z (by rw [b_0]; decide), fun ⟨p', z, _⟩ => by omega⟩)⟩
end
end
section
section
variable {y_cap y_phase y_rules y_pairs y_lines y_size : Int32} {y_m y_ar y_len y_pairAt y_rec y_digit y_level y_bind y_hide y_gt y_fit y_path : Nat → Int32}
def wk_Y (ar TY0 TY A dg hd gt : Nat → Nat) : Prop :=
  (∀ k, TY k < 8) ∧ (∀ k, k < 144 → TY k = TY0 k) ∧ (∀ t, t < 8 → A t = ar t) ∧ (∀ t, t < 16 → 12 ≤ t → A t = 0) ∧ (∀ t, t < 8 → 4 ≤ t → dg t = 0) ∧ (∀ j, hd j < 2) ∧ ∀ j, gt j < 2
def oy_T (ar TY0 : Nat → Nat) (pl pr : Nat) (l r : List Nat) : Prop :=
  tx_t TY0 pl l.length = l ∧ tx_t TY0 pr r.length = r ∧ l.length ≤ 8 ∧ r.length ≤ 8 ∧ pl + l.length ≤ 144 ∧ pr + r.length ≤ 144 ∧ tx_T ar l ∧ tx_T ar r
theorem zy_relW {post : Int32 → SY → Prop} {ar TY0 TY A dg lvl hd gt : Nat → Nat} {f o kd ix pl pr : Nat} {l r : List Nat} (hA : fd_A ar) (hf : fd_L ar f) (ho : o < 24) (hW : wk_Y ar TY0 TY A dg hd gt) (hP : oy_P y_pairAt kd ix pl pr) (hT : oy_T ar TY0 pl pr l r)
    (hp : ∀ TY' A' dg' lvl' hd' gt' v, wk_Y ar TY0 TY' A' dg' hd' gt' → oy_V (fd_kp ar f) (pl_v (pl_T o)) (fd_f ar f l) (fd_f ar f r) v → post v (y_cap, y_phase, y_rules, y_pairs, y_lines, y_size, na_F TY', na_F A', y_len, y_pairAt, y_rec, na_F dg', na_F lvl', y_bind, na_F hd', na_F gt', y_fit, y_path)) :
    wpY_relation post (y_cap, y_phase, y_rules, y_pairs, y_lines, y_size, na_F TY, na_F A, y_len, y_pairAt, y_rec, na_F dg, na_F lvl, y_bind, na_F hd, na_F gt, y_fit, y_path) (nI kd) (nI ix) (nI f) (nI (pl_T o)) := by
  obtain ⟨w1, w2, w3, w4, w5, w6, w7⟩ := hW
  obtain ⟨t1, t2, t3, t4, t5, t6, t7, t8⟩ := hT
  refine zy_relation hA hf (pl_f1 o ho).1 w1 w3 w4 w5 w6 w7 hP ?_ ?_ t3 t4 t5 t6 t7 t8 ?_
  · rw [← t1, tx_len]
    exact tx_congr fun i hi => w2 _ (by omega)
  · rw [← t2, tx_len]
    exact tx_congr fun i hi => w2 _ (by omega)
  · intro T' A' dg' lvl' hd' gt' v q1 q2 q3 q4 q5 q6 q7 q8
    exact hp T' A' dg' lvl' hd' gt' v ⟨q1, fun k hk => by rw [q2 k (Or.inl hk), w2 k hk], q3, q4, q5, q6, q7⟩ q8
theorem oy_V0 {ar : Nat → Nat} {f o : Nat} {l r : List Nat} {v : Int32} (h : oy_V (fd_kp ar f) (pl_v (pl_T o)) (fd_f ar f l) (fd_f ar f r) v) : (v = 0 ↔ ¬ wk_w ar f o l r) ∧ (v = 2 ↔ wk_s ar f o l r) := by
  unfold wk_w wk_s
  obtain ⟨h1, h2, h3⟩ := h
  by_cases e : fd_f ar f l = fd_f ar f r
  · rw [h1 e]
    exact ⟨⟨fun z => absurd z (by decide), fun z => absurd (Or.inl e) z⟩, ⟨fun z => absurd z (by decide), fun z => absurd e z.1⟩⟩
  · by_cases e2 : po_V (fd_kp ar f) (pl_v (pl_T o)) (fd_f ar f l) (fd_f ar f r)
    · rw [h2 e e2]
      exact ⟨⟨fun z => absurd z (by decide), fun z => absurd (Or.inr e2) z⟩, ⟨fun _ => ⟨e, e2⟩, fun _ => rfl⟩⟩
    · rw [h3 e e2]
      exact ⟨⟨fun _ z => z.elim e e2, fun _ => rfl⟩, ⟨fun z => absurd z (by decide), fun z => absurd z.2 e2⟩⟩
/-- the places of the reference's rules and pairs -/
def wk_U (ar TY0 : Nat → Nat) (pa : Nat → Int32) (LL RR LP RP : Nat → List Nat) (R P : Nat) : Prop := R ≤ 6 ∧ P ≤ 8 ∧ (∀ r, r < R → oy_T ar TY0 (16 * r) (16 * r + 8) (LL r) (RR r)) ∧ ∀ p, p < P → ∃ pl pr, oy_P pa 1 p pl pr ∧ oy_T ar TY0 pl pr (LP p) (RP p)
theorem zy_judge {post : Int32 → SY → Prop} {ar TY0 TY A dg lvl hd gt : Nat → Nat} {LL RR LP RP : Nat → List Nat} {c : Int32} {f o R P : Nat} (hA : fd_A ar) (hf : fd_L ar f) (ho : o < 24) (hU : wk_U ar TY0 y_pairAt LL RR LP RP R P) (hW : wk_Y ar TY0 TY A dg hd gt)
    (h1 : ∀ d TY A dg lvl hd gt, wk_Y ar TY0 TY A dg hd gt → wk_A ar f o LL RR LP RP R P c → wk_b ar f o LP RP P c d → post d (y_cap, y_phase, nI R, nI P, y_lines, y_size, na_F TY, na_F A, y_len, y_pairAt, y_rec, na_F dg, na_F lvl, y_bind, na_F hd, na_F gt, y_fit, y_path))
    (h0 : ∀ TY A dg lvl hd gt, wk_Y ar TY0 TY A dg hd gt → ¬ wk_A ar f o LL RR LP RP R P c → post (-1) (y_cap, y_phase, nI R, nI P, y_lines, y_size, na_F TY, na_F A, y_len, y_pairAt, y_rec, na_F dg, na_F lvl, y_bind, na_F hd, na_F gt, y_fit, y_path)) :
    wpY_judge post (y_cap, y_phase, nI R, nI P, y_lines, y_size, na_F TY, na_F A, y_len, y_pairAt, y_rec, na_F dg, na_F lvl, y_bind, na_F hd, na_F gt, y_fit, y_path) c (nI f) (nI (pl_T o)) := by
  obtain ⟨u1, u2, u3, u4⟩ := hU
  have k38 : (∀ r, r < R → wk_w ar f o (LL r) (RR r)) → ∀ d N p x TY A dg lvl hd gt, d < N → p + d = P → wk_Y ar TY0 TY A dg hd gt → (∀ p', p' < p → bt c p' = true → wk_w ar f o (LP p') (RP p')) →
      (∀ s, s < 32 → (bt x s = true ↔ s < p ∧ bt c s = true ∧ wk_s ar f o (LP s) (RP s))) →
      wY_judge_38 post c (nI f) (nI (pl_T o)) N x (nI p) y_cap y_phase (nI R) (nI P) y_lines y_size (na_F TY) (na_F A) y_len y_pairAt y_rec (na_F dg) (na_F lvl) y_bind (na_F hd) (na_F gt) y_fit y_path := by
    intro hR d
    induction d with
    | zero =>
      intro N p x TY A dg lvl hd gt hN hpd hW hw hx
      obtain ⟨N, rfl⟩ : ∃ M, N = M + 1 := ⟨N - 1, by omega⟩
      have e : p = P := by omega
      rw [e] at hw hx
      exact br_t (nI_le (by omega) (by omega)) (h1 x TY A dg lvl hd gt hW ⟨hR, hw⟩ hx)
    | succ d ih =>
      intro N p x TY A dg lvl hd gt hN hpd hW hw hx
      obtain ⟨N, rfl⟩ : ∃ M, N = M + 1 := ⟨N - 1, by omega⟩
      refine br_f (nI_ge (by omega) (by omega)) ?_
      have q := zb_q (n := p) (by omega) c
      cases hb : bt c p with
      | true =>
        refine br_f (fun z => by rw [q.mp z] at hb; exact absurd hb (by decide)) ?_
        obtain ⟨pl, pr, hP, hT⟩ := u4 p (by omega)
        refine zy_relW (kd := 1) hA hf ho hW hP hT ?_
        intro TY' A' dg' lvl' hd' gt' v hW' hv
        obtain ⟨v0, v2⟩ := oy_V0 hv
        by_cases e0 : v = 0
        · exact br_t e0 (h0 TY' A' dg' lvl' hd' gt' hW' fun z => v0.mp e0 (z.2 p (by omega) hb))
        · refine br_f e0 ?_
          have hw' : ∀ p', p' < p + 1 → bt c p' = true → wk_w ar f o (LP p') (RP p') := by
            intro p' hp' hb'
            by_cases e : p' = p
            · rw [e]
              exact Classical.byContradiction fun z => e0 (v0.mpr z)
            · exact hw p' (by omega) hb'
          by_cases e2 : v = 2
          · refine br_t e2 ?_
            refine nm_e (nm_r (e' := nI (p + 1)) (nI_1 p) (ih N (p + 1) _ TY' A' dg' lvl' hd' gt' (by omega) (by omega) hW' hw' (fun s hs => ?_)))
            have eb : bt ((1 : Int32) <<< (nI p &&& 31)) s = decide (s = p) := zb_one (by omega) hs
            rw [b_or, Bool.or_eq_true, eb, hx s hs]
            constructor
            · rintro (⟨z1, z2⟩ | z)
              · exact ⟨by omega, z2⟩
              · have := of_decide_eq_true z
                rw [this]
                exact ⟨by omega, hb, v2.mp e2⟩
            · rintro ⟨z1, z2⟩
              by_cases e : s = p
              · exact Or.inr (decide_eq_true e)
              · exact Or.inl ⟨by omega, z2⟩
          · refine br_f e2 ?_
            refine nm_r (e' := nI (p + 1)) (nI_1 p) (ih N (p + 1) x TY' A' dg' lvl' hd' gt' (by omega) (by omega) hW' hw' (fun s hs => ?_))
            rw [hx s hs]
            constructor
            · rintro ⟨z1, z2⟩
              exact ⟨by omega, z2⟩
            · rintro ⟨z1, z2⟩
              by_cases e : s = p
              · rw [e] at z2; exact absurd (v2.mpr z2.2) e2
              · exact ⟨by omega, z2⟩
      | false =>
        refine br_t (q.mpr hb) ?_
        refine nm_r (e' := nI (p + 1)) (nI_1 p) (ih N (p + 1) x TY A dg lvl hd gt (by omega) (by omega) hW (fun p' hp' hb' => ?_) (fun s hs => ?_))
        · by_cases e : p' = p
          · rw [e, hb] at hb'; exact absurd hb' (by decide)
          · exact hw p' (by omega) hb'
        · rw [hx s hs]
          constructor
          · rintro ⟨z1, z2⟩
            exact ⟨by omega, z2⟩
          · rintro ⟨z1, z2⟩
            by_cases e : s = p
            · rw [e, hb] at z2; exact absurd z2.1 (by decide)
            · exact ⟨by omega, z2⟩
  have k3 : ∀ d N r TY A dg lvl hd gt, d < N → r + d = R → wk_Y ar TY0 TY A dg hd gt → (∀ r', r' < r → wk_w ar f o (LL r') (RR r')) →
      wY_judge_3 post c (nI f) (nI (pl_T o)) N (nI r) y_cap y_phase (nI R) (nI P) y_lines y_size (na_F TY) (na_F A) y_len y_pairAt y_rec (na_F dg) (na_F lvl) y_bind (na_F hd) (na_F gt) y_fit y_path := by
    intro d
    induction d with
    | zero =>
      intro N r TY A dg lvl hd gt hN hrd hW hw
      obtain ⟨N, rfl⟩ : ∃ M, N = M + 1 := ⟨N - 1, by omega⟩
      have e : r = R := by omega
      rw [e] at hw
      refine br_t (nI_le (by omega) (by omega)) ⟨P + 1, k38 hw P (P + 1) 0 0 TY A dg lvl hd gt (by omega) (by omega) hW (fun p' hp' => by omega) (fun s hs => ⟨fun z => absurd z (by rw [b_0]; decide), fun z => by omega⟩)⟩
    | succ d ih =>
      intro N r TY A dg lvl hd gt hN hrd hW hw
      obtain ⟨N, rfl⟩ : ∃ M, N = M + 1 := ⟨N - 1, by omega⟩
      refine br_f (nI_ge (by omega) (by omega)) ?_
      refine zy_relW (kd := 0) hA hf ho hW (Or.inl ⟨rfl, by omega, rfl, rfl⟩) (u3 r (by omega)) ?_
      intro TY' A' dg' lvl' hd' gt' v hW' hv
      obtain ⟨v0, v2⟩ := oy_V0 hv
      by_cases e0 : v = 0
      · exact br_t e0 (h0 TY' A' dg' lvl' hd' gt' hW' fun z => v0.mp e0 (z.1 r (by omega)))
      · refine br_f e0 ?_
        refine nm_r (e' := nI (r + 1)) (nI_1 r) (ih N (r + 1) TY' A' dg' lvl' hd' gt' (by omega) (by omega) hW' (fun r' hr' => ?_))
        by_cases e : r' = r
        · rw [e]
          exact Classical.byContradiction fun z => e0 (v0.mpr z)
        · exact hw r' (by omega)
  exact ⟨R + 1, k3 R (R + 1) 0 TY A dg lvl hd gt (by omega) (by omega) hW (fun r' hr' => by omega)⟩
end
end
section
section
variable {x_pairSlot x_subjectBase x_filteredLeft x_filteredRight x_scratch x_allOrders x_equalMark x_termCells x_phase x_ruleCount x_pairCount x_lineCount x_defined x_openSide x_openMissing x_subjectLength x_subjectMissing : Int32} {x_tok x_end x_cut x_length x_precedences x_above x_greater x_relation x_arity x_shape x_kept x_bound x_links x_lines : Nat → Int32}
variable {y_cap y_phase y_rules y_pairs y_lines y_size : Int32} {y_m y_ar y_len y_pairAt y_rec y_digit y_level y_bind y_hide y_gt y_fit y_path : Nat → Int32}
def wk_ln (rec : Nat → Int32) (L : Nat) (d f p : Int32) : Nat → Int32 := upd (upd (upd rec (L * 3) d) (L * 3 + 1) f) (L * 3 + 2) p
theorem zx_addLine {post : SX → Prop} {L : Nat} {d f p : Int32} (hL : L < 8) (hp : post (x_pairSlot, x_subjectBase, x_filteredLeft, x_filteredRight, x_scratch, x_allOrders, x_equalMark, x_termCells, x_phase, x_ruleCount, x_pairCount, nI (L + 1), x_defined, x_openSide, x_openMissing, x_subjectLength, x_subjectMissing, x_tok, x_end, x_cut, x_length, x_precedences, x_above, x_greater, x_relation, x_arity, x_shape, x_kept, x_bound, x_links, wk_ln x_lines L d f p)) : wpX_addLine post (x_pairSlot, x_subjectBase, x_filteredLeft, x_filteredRight, x_scratch, x_allOrders, x_equalMark, x_termCells, x_phase, x_ruleCount, x_pairCount, nI L, x_defined, x_openSide, x_openMissing, x_subjectLength, x_subjectMissing, x_tok, x_end, x_cut, x_length, x_precedences, x_above, x_greater, x_relation, x_arity, x_shape, x_kept, x_bound, x_links, x_lines) d f p := by
  unfold wpX_addLine
  simp (disch := omega) only [li_0, li_1, li_2, li_3, li_4, li_5, li_6, li_7, li_8, li_11, li_15, li_16, li_24, li_32, li_112, li_144, li_152, li_160, li_192, li_240, li_255, li_256, li_272, li_280, li_288, li_1295, li_1296, nI_add, pk_mul, pk_sub, ni_m1, nI_clamp, ni_in, nI_leI, nI_ltI, nI_eq, forall_eq, na_at, na_upd, Nat.zero_add, Nat.add_zero]
  exact ⟨by omega, by omega, by omega, hp⟩
theorem zy_addLine {post : Int32 → SY → Prop} {L : Nat} {d f p : Int32} (hL : L < 8) (hp : post (nI L) (y_cap, y_phase, y_rules, y_pairs, nI (L + 1), y_size, y_m, y_ar, y_len, y_pairAt, wk_ln y_rec L d f p, y_digit, y_level, y_bind, y_hide, y_gt, y_fit, y_path)) : wpY_addLine post (y_cap, y_phase, y_rules, y_pairs, nI L, y_size, y_m, y_ar, y_len, y_pairAt, y_rec, y_digit, y_level, y_bind, y_hide, y_gt, y_fit, y_path) d f p := by
  have e : 3 * L = L * 3 := Nat.mul_comm _ _
  have e2 : L + 1 - 1 = L := by omega
  unfold wpY_addLine
  simp (disch := omega) only [li_0, li_1, li_2, li_3, li_4, li_5, li_6, li_7, li_8, li_11, li_15, li_16, li_24, li_32, li_112, li_144, li_152, li_160, li_192, li_240, li_255, li_256, li_272, li_280, li_288, li_1295, li_1296, nI_add, pk_mul, pk_sub, ni_m1, nI_clamp, ni_in, nI_leI, nI_ltI, nI_eq, forall_eq, na_at, na_upd, Nat.zero_add, Nat.add_zero, e, e2]
  exact br_t (by omega) ⟨by omega, by omega, by omega, hp⟩
/-- the bits of a set of pairs -/
theorem wk_bn {ar : Nat → Nat} {f o P : Nat} {LP RP : Nat → List Nat} {st d : Int32} (hP : P ≤ 8) (h : wk_b ar f o LP RP P st d) : ∃ n, n < 256 ∧ d = nI n := by
  refine zb_nat d (k := 8) (by omega) (fun i h1 h2 => ?_)
  cases hb : bt d i with
  | false => rfl
  | true => exact absurd ((h i h2).mp hb).1 (by omega)
theorem wk_b0 {ar : Nat → Nat} {f o P : Nat} {LP RP : Nat → List Nat} {st d : Int32} (hP : P ≤ 8) (h : wk_b ar f o LP RP P st d) : d ≤ 0 ↔ ¬ ∃ p, p < P ∧ bt st p = true ∧ wk_s ar f o (LP p) (RP p) := by
  obtain ⟨n, hn, e⟩ := wk_bn hP h
  constructor
  · intro hle
    rintro ⟨p, h1, h2, h3⟩
    have hb := (h p (by omega)).mpr ⟨h1, h2, h3⟩
    rw [e] at hle
    have : n = 0 := by
      have := (nI_leI (a := n) (b := 0) (by omega) (by omega)).mp hle
      omega
    rw [e, this, zb_0] at hb
    exact absurd hb (by decide)
  · intro hno
    have : d = nI 0 := zb_zero.mpr fun i hi => by
      cases hb : bt d i with
      | false => rfl
      | true => exact absurd ⟨i, (h i hi).mp hb⟩ hno
    rw [this]
    decide
theorem wk_bu {ar : Nat → Nat} {f o P : Nat} {LP RP : Nat → List Nat} {st d d' : Int32} (h : wk_b ar f o LP RP P st d) (h' : wk_b ar f o LP RP P st d') : d = d' := by
  apply b_ext
  intro i hi
  have := (h i hi).trans (h' i hi).symm
  cases h1 : bt d i <;> cases h2 : bt d' i <;> simp [h1, h2] at this ⊢
theorem pl_mono : ∀ o, o < 24 → ∀ o', o' < o → pl_T o' < pl_T o := by decide +kernel
theorem zx_search {post : Int32 → SX → Prop} {TX0 en0 ar pc : Nat → Nat} {LL RR LP RP : Nat → List Nat} {st : Int32} {R P L : Nat} (hA : fd_A ar)
    (hq : ∀ t, t < 8 → x_arity t = nI (ar t)) (hab : pl_A x_above) (hpc : pl_P pc) (hT : wk_T ar TX0 en0 LL RR LP RP R P) (hL : L < 8)
    (h1 : ∀ f o d TX en ct gr rl sh kp, wk_So ar LL RR LP RP R P st f o → (∀ f' o', f' < f → ¬ wk_So ar LL RR LP RP R P st f' o') → (∀ o', o' < o → ¬ wk_So ar LL RR LP RP R P st f o') → wk_b ar f o LP RP P st d → wk_X TX0 en0 TX en ct gr → (∀ t, t < 8 → 4 ≤ t → sh t = 4 ∧ kp t = 0) →
      post d (x_pairSlot, x_subjectBase, x_filteredLeft, x_filteredRight, x_scratch, x_allOrders, x_equalMark, x_termCells, x_phase, nI R, nI P, nI (L + 1), x_defined, x_openSide, x_openMissing, x_subjectLength, x_subjectMissing, na_F TX, na_F en, na_F ct, x_length, na_F pc, x_above, gr, rl, x_arity, na_F sh, na_F kp, x_bound, x_links, wk_ln x_lines L d (nI f) (nI (pl_T o))))
    (h0 : ∀ TX en ct gr rl sh kp, (∀ f o, f < 1296 → ¬ wk_So ar LL RR LP RP R P st f o) → wk_X TX0 en0 TX en ct gr → (∀ t, t < 8 → 4 ≤ t → sh t = 4 ∧ kp t = 0) →
      post 0 (x_pairSlot, x_subjectBase, x_filteredLeft, x_filteredRight, x_scratch, x_allOrders, x_equalMark, x_termCells, x_phase, nI R, nI P, nI L, x_defined, x_openSide, x_openMissing, x_subjectLength, x_subjectMissing, na_F TX, na_F en, na_F ct, x_length, na_F pc, x_above, gr, rl, x_arity, na_F sh, na_F kp, x_bound, x_links, x_lines)) :
    ∀ d N f TX en ct gr rl sh kp, d < N → f + d = 1296 → wk_X TX0 en0 TX en ct gr → (∀ t, t < 8 → 4 ≤ t → sh t = 4 ∧ kp t = 0) → (∀ f' o', f' < f → ¬ wk_So ar LL RR LP RP R P st f' o') →
      wX_step_22 post st N (nI f) x_pairSlot x_subjectBase x_filteredLeft x_filteredRight x_scratch x_allOrders x_equalMark x_termCells x_phase (nI R) (nI P) (nI L) x_defined x_openSide x_openMissing x_subjectLength x_subjectMissing (na_F TX) (na_F en) (na_F ct) x_length (na_F pc) x_above gr rl x_arity (na_F sh) (na_F kp) x_bound x_links x_lines := by
  intro d
  induction d with
  | zero =>
    intro N f TX en ct gr rl sh kp hN hfd hW hs hno
    obtain ⟨N, rfl⟩ : ∃ M, N = M + 1 := ⟨N - 1, by omega⟩
    exact br_t (nI_le (a := 1296) (by omega) (by omega)) (h0 TX en ct gr rl sh kp (fun f' o' hf' => hno f' o' (by omega)) hW hs)
  | succ d ih =>
    intro N f TX en ct gr rl sh kp hN hfd hW hs hno
    obtain ⟨N, rfl⟩ : ∃ M, N = M + 1 := ⟨N - 1, by omega⟩
    refine br_f (nI_ge (b := 1296) (by omega) (by omega)) ?_
    have next : ∀ TX en ct gr rl sh kp, wk_X TX0 en0 TX en ct gr → (∀ t, t < 8 → 4 ≤ t → sh t = 4 ∧ kp t = 0) → (∀ o, ¬ wk_So ar LL RR LP RP R P st f o) →
        wX_step_47 post (wX_step_22 post st N) st (nI f) 0 x_pairSlot x_subjectBase x_filteredLeft x_filteredRight x_scratch x_allOrders x_equalMark x_termCells x_phase (nI R) (nI P) (nI L) x_defined x_openSide x_openMissing x_subjectLength x_subjectMissing (na_F TX) (na_F en) (na_F ct) x_length (na_F pc) x_above gr rl x_arity (na_F sh) (na_F kp) x_bound x_links x_lines := by
      intro TX en ct gr rl sh kp hW hs hnf
      refine br_t rfl ?_
      refine nm_r (e' := nI (f + 1)) (nI_1 f) (ih N (f + 1) TX en ct gr rl sh kp (by omega) (by omega) hW hs (fun f' o' hf' => ?_))
      by_cases e : f' = f
      · rw [e]; exact hnf o'
      · exact hno f' o' (by omega)
    refine zx_legal (ar := ar) hA hq (fun f' e hf' => ?_) (fun hnl => ?_)
    · have ef : f = f' := (nI_eq (by omega) (by have := hf'.1; omega)).mp e
      subst ef
      refine br_f (by decide) ?_
      refine zx_solutions hA hf' hq hs hab hT hW ?_
      intro x TX' en' ct' gr' rl' sh' kp' hW' hs' hx hR
      by_cases hx0 : x = 0
      · rw [hx0]
        refine next TX' en' ct' gr' rl' sh' kp' hW' hs' (fun o hso => ?_)
        have := (hx o (by have := hso.2.1; omega)).mpr hso
        rw [hx0, b_0] at this
        exact absurd this (by decide)
      · refine br_f hx0 ?_
        refine zx_lowest (fun o ho hb hmin => ?_) (fun hall => ?_)
        · have hso := (hx o (by omega)).mp hb
          refine zx_strict hT.2.1 ho (hR hx0) (fun d hd => ?_)
          refine ⟨vp_in_nI (by omega) (by omega), ?_⟩
          rw [nI_clamp (by omega), na_at, hpc o ho]
          refine zx_addLine hL ?_
          refine h1 f o d TX' en' ct' gr' rl' sh' kp' hso hno (fun o' ho' hso' => ?_) hd hW' hs'
          have := (hx o' (by omega)).mpr hso'
          rw [hmin o' ho'] at this
          exact absurd this (by decide)
        · exfalso
          apply hx0
          apply b_ext
          intro i hi
          rw [b_0]
          by_cases h24 : i < 24
          · exact hall i h24
          · cases hb : bt x i with
            | false => rfl
            | true => exact absurd ((hx i hi).mp hb).2.1 h24
    · refine br_t (by decide) (next TX en ct gr rl sh kp hW hs (fun o hso => hnl f rfl (by omega) hso.1))
theorem zy_search {post : Int32 → SY → Prop} {ar TY0 : Nat → Nat} {LL RR LP RP : Nat → List Nat} {c : Int32} {R P L : Nat} (hA : fd_A ar) (hU : wk_U ar TY0 y_pairAt LL RR LP RP R P) (hL : L < 8)
    (h1 : ∀ f o d TY A dg lvl hd gt, wk_So ar LL RR LP RP R P c f o → (∀ f' o', f' < f → ¬ wk_So ar LL RR LP RP R P c f' o') → (∀ o', o' < o → ¬ wk_So ar LL RR LP RP R P c f o') → wk_b ar f o LP RP P c d → wk_Y ar TY0 TY A dg hd gt →
      post d (y_cap, y_phase, nI R, nI P, nI (L + 1), y_size, na_F TY, na_F A, y_len, y_pairAt, wk_ln y_rec L d (nI f) (nI (pl_T o)), na_F dg, na_F lvl, y_bind, na_F hd, na_F gt, y_fit, y_path))
    (h0 : ∀ TY A dg lvl hd gt, (∀ f o, f < 1296 → ¬ wk_So ar LL RR LP RP R P c f o) → wk_Y ar TY0 TY A dg hd gt →
      post 0 (y_cap, y_phase, nI R, nI P, nI L, y_size, na_F TY, na_F A, y_len, y_pairAt, y_rec, na_F dg, na_F lvl, y_bind, na_F hd, na_F gt, y_fit, y_path)) :
    ∀ d N f TY A dg lvl hd gt, d < N → f + d = 1296 → wk_Y ar TY0 TY A dg hd gt → (∀ f' o', f' < f → ¬ wk_So ar LL RR LP RP R P c f' o') →
      wY_step_21 post c N (nI f) y_cap y_phase (nI R) (nI P) (nI L) y_size (na_F TY) (na_F A) y_len y_pairAt y_rec (na_F dg) (na_F lvl) y_bind (na_F hd) (na_F gt) y_fit y_path := by
  have hP := hU.2.1
  intro d
  induction d with
  | zero =>
    intro N f TY A dg lvl hd gt hN hfd hW hno
    obtain ⟨N, rfl⟩ : ∃ M, N = M + 1 := ⟨N - 1, by omega⟩
    exact br_t (nI_le (a := 1296) (by omega) (by omega)) (h0 TY A dg lvl hd gt (fun f' o' hf' => hno f' o' (by omega)) hW)
  | succ d ih =>
    intro N f TY A dg lvl hd gt hN hfd hW hno
    obtain ⟨N, rfl⟩ : ∃ M, N = M + 1 := ⟨N - 1, by omega⟩
    refine br_f (nI_ge (b := 1296) (by omega) (by omega)) ?_
    have next : ∀ TY A dg lvl hd gt, wk_Y ar TY0 TY A dg hd gt → (∀ o, ¬ wk_So ar LL RR LP RP R P c f o) →
        wY_step_21 post c N (nI (f + 1)) y_cap y_phase (nI R) (nI P) (nI L) y_size (na_F TY) (na_F A) y_len y_pairAt y_rec (na_F dg) (na_F lvl) y_bind (na_F hd) (na_F gt) y_fit y_path := by
      intro TY A dg lvl hd gt hW hnf
      refine ih N (f + 1) TY A dg lvl hd gt (by omega) (by omega) hW (fun f' o' hf' => ?_)
      by_cases e : f' = f
      · rw [e]; exact hnf o'
      · exact hno f' o' (by omega)
    refine zy_legal (ar := ar) hA (fun t ht => by rw [na_at, hW.2.2.1 t ht]) (fun f' e hf' => ?_) (fun hnl => ?_)
    · have ef : f = f' := (nI_eq (by omega) (by have := hf'.1; omega)).mp e
      subst ef
      refine br_f (by decide) ⟨257, ?_⟩
      have key : ∀ d N' p TY A dg lvl hd gt, d < N' → p + d = 256 → wk_Y ar TY0 TY A dg hd gt → (∀ o, o < 24 → pl_T o < p → ¬ wk_So ar LL RR LP RP R P c f o) →
          wY_step_42 post (wY_step_21 post c N) c (nI f) N' (nI p) y_cap y_phase (nI R) (nI P) (nI L) y_size (na_F TY) (na_F A) y_len y_pairAt y_rec (na_F dg) (na_F lvl) y_bind (na_F hd) (na_F gt) y_fit y_path := by
        intro d
        induction d with
        | zero =>
          intro N' p TY A dg lvl hd gt hN' hpd hW hnp
          obtain ⟨N', rfl⟩ : ∃ M, N' = M + 1 := ⟨N' - 1, by omega⟩
          refine br_t (nI_le (a := 256) (by omega) (by omega)) ?_
          refine nm_r (e' := nI (f + 1)) (nI_1 f) (next TY A dg lvl hd gt hW (fun o hso => hnp o hso.2.1 ?_ hso))
          have := (pl_f1 o hso.2.1).1
          omega
        | succ d ih2 =>
          intro N' p TY A dg lvl hd gt hN' hpd hW hnp
          obtain ⟨N', rfl⟩ : ∃ M, N' = M + 1 := ⟨N' - 1, by omega⟩
          refine br_f (nI_ge (b := 256) (by omega) (by omega)) ?_
          have nextp : ∀ (z : Int32) TY A dg lvl hd gt, z ≤ 0 → wk_Y ar TY0 TY A dg hd gt → (∀ o, o < 24 → pl_T o = p → ¬ wk_So ar LL RR LP RP R P c f o) →
              wY_step_71 post (wY_step_21 post c N) (wY_step_42 post (wY_step_21 post c N) c (nI f) N') c (nI f) (nI p) z y_cap y_phase (nI R) (nI P) (nI L) y_size (na_F TY) (na_F A) y_len y_pairAt y_rec (na_F dg) (na_F lvl) y_bind (na_F hd) (na_F gt) y_fit y_path := by
            intro z TY A dg lvl hd gt hz hW hnq
            refine br_t hz ?_
            refine nm_r (e' := nI (p + 1)) (nI_1 p) (ih2 N' (p + 1) TY A dg lvl hd gt (by omega) (by omega) hW (fun o ho hlt => ?_))
            by_cases e : pl_T o = p
            · exact hnq o ho e
            · exact hnp o ho (by omega)
          refine zy_legalP (fun o ho eo => ?_) (fun hnl => ?_)
          · have ep : p = pl_T o := (nI_eq (by omega) (by have := (pl_f1 o ho).1; omega)).mp eo
            refine br_f (by decide) ?_
            rw [eo]
            refine zy_judge hA hf' ho hU hW (fun d TY' A' dg' lvl' hd' gt' hW' hall hd2 => ?_) (fun TY' A' dg' lvl' hd' gt' hW' hall => ?_)
            · by_cases hz : d ≤ 0
              · rw [← eo]
                refine nextp d TY' A' dg' lvl' hd' gt' hz hW' (fun o2 ho2 e2 hso => ?_)
                have : o2 = o := by
                  have f1 := (pl_f1 o ho).2.2
                  have f2 := (pl_f1 o2 ho2).2.2
                  rw [e2, ep] at f2
                  omega
                rw [this] at hso
                exact (wk_b0 hP hd2).mp hz hso.2.2.2
              · refine br_f hz ?_
                refine zy_addLine hL ?_
                refine h1 f o d TY' A' dg' lvl' hd' gt' ⟨hf', ho, hall, Classical.byContradiction fun z => hz ((wk_b0 hP hd2).mpr z)⟩ hno (fun o' ho' => hnp o' (by omega) (by rw [ep]; exact pl_mono o ho o' ho')) hd2 hW'
            · rw [← eo]
              refine nextp (-1) TY' A' dg' lvl' hd' gt' (by decide) hW' (fun o2 ho2 e2 hso => ?_)
              have : o2 = o := by
                have f1 := (pl_f1 o ho).2.2
                have f2 := (pl_f1 o2 ho2).2.2
                rw [e2, ep] at f2
                omega
              rw [this] at hso
              exact hall hso.2.2.1
          · exact br_t (by decide) (nextp (-1) TY A dg lvl hd gt (by decide) hW (fun o ho e => absurd (by rw [e]) (hnl o ho)))
      exact key 256 257 0 TY A dg lvl hd gt (by omega) (by omega) hW (fun o ho hlt => by omega)
    · refine br_t (by decide) ?_
      exact nm_r (e' := nI (f + 1)) (nI_1 f) (next TY A dg lvl hd gt hW (fun o hso => hnl f rfl (by omega) hso.1))
end
end
section
section
variable {x_pairSlot x_subjectBase x_filteredLeft x_filteredRight x_scratch x_allOrders x_equalMark x_termCells x_phase x_ruleCount x_pairCount x_lineCount x_defined x_openSide x_openMissing x_subjectLength x_subjectMissing : Int32} {x_tok x_end x_cut x_length x_precedences x_above x_greater x_relation x_arity x_shape x_kept x_bound x_links x_lines : Nat → Int32}
variable {y_cap y_phase y_rules y_pairs y_lines y_size : Int32} {y_m y_ar y_len y_pairAt y_rec y_digit y_level y_bind y_hide y_gt y_fit y_path : Nat → Int32}
theorem cf_ext {a U V U' V' : Nat → Nat} {df df' : Nat → Prop} {nU nV : Nat} (hU : tx_T a (tx_t U 0 nU)) (hV : tx_T a (tx_t V 0 nV)) (bU : nU ≤ 8) (bV : nV ≤ 8) (eU : tx_t U 0 nU = tx_t U' 0 nU) (eV : tx_t V 0 nV = tx_t V' 0 nV) (hd : ∀ i, i < nU → (df (U i) ↔ df' (U i))) :
    (∀ n i j, i < nU → j < nV → (cf_n a U V df n i j ↔ cf_n a U' V' df' n i j)) ∧ (cf_C a U V df ↔ cf_C a U' V' df') := by
  have base : ∀ (F F' : Nat → Nat → Prop), (∀ i j, i < nU → j < nV → (F i j ↔ F' i j)) → ∀ i j, i < nU → j < nV → (cf_l a U V F i j ↔ cf_l a U' V' F' i j) := by
    intro F F' hF i j hi hj
    obtain ⟨z1, z2, z3⟩ := tx_subk hU (by omega) (Nat.zero_le i) (by omega)
    obtain ⟨w1, w2, w3⟩ := tx_subk hV (by omega) (Nat.zero_le j) (by omega)
    have a1 := tx_zeq hU (by omega) eU hi
    have a2 := tx_zeq hV (by omega) eV hj
    rw [Nat.zero_add] at a1 a2
    have e1 : tx_t U i (tx_z a U i) = tx_t U' i (tx_z a U i) := by
      have := tx_mid (j := i) (m := tx_z a U i) eU (by omega)
      rw [Nat.zero_add] at this
      exact this
    have e2 : tx_t V j (tx_z a V j) = tx_t V' j (tx_z a V j) := by
      have := tx_mid (j := j) (m := tx_z a V j) eV (by omega)
      rw [Nat.zero_add] at this
      exact this
    have gU : ∀ g, g < a (U i) → tx_g a U' i g = tx_g a U i g ∧ tx_g a U i g < nU := fun g hg => by
      have := tx_geq z1 (by omega) e1 g (by omega)
      obtain ⟨q1, q2, _⟩ := tx_args z1 (by omega) hg
      omega
    have gV : ∀ g, g < a (V j) → tx_g a V' j g = tx_g a V j g ∧ tx_g a V j g < nV := fun g hg => by
      have := tx_geq w1 (by omega) e2 g (by omega)
      obtain ⟨q1, q2, _⟩ := tx_args w1 (by omega) hg
      omega
    unfold cf_l
    rw [← a1.1, ← a2.1]
    constructor
    · rintro ⟨e, h⟩
      refine ⟨e, fun g hg => ?_⟩
      have hgV : g < a (V j) := by rw [← e]; exact hg
      rw [(gU g hg).1, (gV g hgV).1, ← hF _ _ (gU g hg).2 (gV g hgV).2]
      exact h g hg
    · rintro ⟨e, h⟩
      refine ⟨e, fun g hg => ?_⟩
      have hgV : g < a (V j) := by rw [← e]; exact hg
      have := h g hg
      rw [(gU g hg).1, (gV g hgV).1, ← hF _ _ (gU g hg).2 (gV g hgV).2] at this
      exact this
  have main : ∀ n i j, i < nU → j < nV → (cf_n a U V df n i j ↔ cf_n a U' V' df' n i j) := by
    intro n
    induction n with
    | zero => intro i j _ _; exact Iff.rfl
    | succ n ih =>
      intro i j hi hj
      have a1 := (tx_eq nU 0 0).mp eU i hi
      have a2 := (tx_eq nV 0 0).mp eV j hj
      rw [Nat.zero_add] at a1 a2
      show cf_s a U V df (cf_n a U V df n) i j ↔ cf_s a U' V' df' (cf_n a U' V' df' n) i j
      unfold cf_s
      rw [base _ _ ih i j hi hj, ← a1, ← a2, hd i hi]
  have pU : 0 < nU := by have := tx_T_pos hU; rw [tx_len] at this; exact this
  have pV : 0 < nV := by have := tx_T_pos hV; rw [tx_len] at this; exact this
  exact ⟨main, base _ _ (main 40) 0 0 pU pV⟩
/-- the edges between the pairs -/
def ed_C (ar TY0 : Nat → Nat) (LP RP : Nat → List Nat) (R P a b : Nat) : Prop := a < P ∧ b < P ∧ cf_C ar (po_L (RP a)) (po_L (LP b)) (zd_D TY0 R)
theorem zy_edgeW {post : Int32 → SY → Prop} {ar TY0 TY A dg lvl hd gt ft : Nat → Nat} {LL RR LP RP : Nat → List Nat} {R P a b : Nat} (hA : fd_A ar) (hU : wk_U ar TY0 y_pairAt LL RR LP RP R P) (h112 : ∀ p, p < P → ∃ pl pr, oy_P y_pairAt 1 p pl pr ∧ oy_T ar TY0 pl pr (LP p) (RP p) ∧ pl + (LP p).length ≤ 112 ∧ pr + (RP p).length ≤ 112) (hW : wk_Y ar TY0 TY A dg hd gt) (ha : a < P) (hb : b < P) (hft : ∀ k, ft k < 2)
    (hp : ∀ ft', (∀ k, ft' k < 2) → (ed_C ar TY0 LP RP R P a b → post 1 (y_cap, y_phase, nI R, nI P, y_lines, y_size, na_F TY, na_F A, y_len, y_pairAt, y_rec, na_F dg, na_F lvl, y_bind, na_F hd, na_F gt, na_F ft', y_path)) ∧ (¬ ed_C ar TY0 LP RP R P a b → post 0 (y_cap, y_phase, nI R, nI P, y_lines, y_size, na_F TY, na_F A, y_len, y_pairAt, y_rec, na_F dg, na_F lvl, y_bind, na_F hd, na_F gt, na_F ft', y_path))) :
    wpY_edge post (y_cap, y_phase, nI R, nI P, y_lines, y_size, na_F TY, na_F A, y_len, y_pairAt, y_rec, na_F dg, na_F lvl, y_bind, na_F hd, na_F gt, na_F ft, y_path) (nI a) (nI b) := by
  obtain ⟨w1, w2, w3, w4, w5, w6, w7⟩ := hW
  obtain ⟨u1, u2, u3, u4⟩ := hU
  obtain ⟨pl, pr, hPa, hTa, ba1, ba2⟩ := h112 a ha
  obtain ⟨pl', pr', hPb, hTb, bb1, bb2⟩ := h112 b hb
  obtain ⟨t1, t2, t3, t4, t5, t6, t7, t8⟩ := hTa
  obtain ⟨s1, s2, s3, s4, s5, s6, s7, s8⟩ := hTb
  rcases hPa with ⟨z, _⟩ | ⟨_, a1, a2, a3, a4⟩
  · omega
  rcases hPb with ⟨z, _⟩ | ⟨_, b1, b2, b3, b4⟩
  · omega
  rw [b4] at s1 bb1
  have eu : tx_t TY pr (RP a).length = RP a := by
    have : tx_t TY pr (RP a).length = tx_t TY0 pr (RP a).length := tx_congr fun i hi => w2 _ (by omega)
    rw [this, t2]
  have ev : tx_t TY (pr' / 16 * 16) (LP b).length = LP b := by
    have : tx_t TY (pr' / 16 * 16) (LP b).length = tx_t TY0 (pr' / 16 * 16) (LP b).length := tx_congr fun i hi => w2 _ (by omega)
    rw [this, s1]
  have kU : tx_T ar (tx_t TY pr (RP a).length) := by rw [eu]; exact t8
  have kV : tx_T ar (tx_t TY (pr' / 16 * 16) (LP b).length) := by rw [ev]; exact s7
  have eC : cf_C ar (fun i => TY (pr + i)) (fun i => TY (pr' / 16 * 16 + i)) (zd_D TY R) ↔ ed_C ar TY0 LP RP R P a b := by
    have h := (cf_ext (a := ar) (U := fun i => TY (pr + i)) (V := fun i => TY (pr' / 16 * 16 + i)) (U' := po_L (RP a)) (V' := po_L (LP b)) (df := zd_D TY R) (df' := zd_D TY0 R) (nU := (RP a).length) (nV := (LP b).length)
      (by rw [tx_shift]; exact kU) (by rw [tx_shift TY (pr' / 16 * 16)]; exact kV) t4 s3 (by rw [tx_shift, Nat.add_zero, eu]; exact (tx_ofl _).symm) (by rw [tx_shift TY (pr' / 16 * 16), Nat.add_zero, ev]; exact (tx_ofl _).symm) (fun i hi => ?_)).2
    · rw [h]
      exact ⟨fun z => ⟨ha, hb, z⟩, fun z => z.2.2⟩
    · unfold zd_D
      constructor
      · rintro ⟨r, hr, e⟩
        exact ⟨r, hr, by rw [← w2 _ (by omega)]; exact e⟩
      · rintro ⟨r, hr, e⟩
        exact ⟨r, hr, by rw [w2 _ (by omega)]; exact e⟩
  refine zy_edge (lu := RP a) (lv := LP b) hA (fun t ht => by rw [na_at, w3 t ht]) w1 u1 u2 ha hb a3 b3 kU kV t4 s3 ba2 bb1 b2 hft eu ev (fun ft' h z => (hp ft' h).1 (eC.mp z)) (fun ft' h z => (hp ft' h).2 (fun z2 => z (eC.mpr z2)))
theorem zx_connW {post : Int32 → Prop} {ar TX en TY0 : Nat → Nat} {LP RP : Nat → List Nat} {R P p q : Nat} (hA : fd_A ar) (hT : ∀ k, TX k < 8) (hD : cx_D x_defined (zd_D TY0 R)) (hP : P ≤ 8) (hp : p < P) (hq : q < P) (hSp : ox_S ar TX en (7 + p) (LP p) (RP p)) (hSq : ox_S ar TX en (7 + q) (LP q) (RP q))
    (h1 : ed_C ar TY0 LP RP R P p q → post 1) (h0 : ¬ ed_C ar TY0 LP RP R P p q → post 0) : wpX_connected post (x_pairSlot, x_subjectBase, x_filteredLeft, x_filteredRight, x_scratch, x_allOrders, x_equalMark, x_termCells, x_phase, x_ruleCount, x_pairCount, x_lineCount, x_defined, x_openSide, x_openMissing, x_subjectLength, x_subjectMissing, na_F TX, na_F en, x_cut, x_length, x_precedences, x_above, x_greater, x_relation, x_arity, x_shape, x_kept, x_bound, x_links, x_lines) (nI p) (nI q) := by
  obtain ⟨a1, a2, a3, a4, a5, a6, a7, a8⟩ := hSp
  obtain ⟨b1, b2, b3, b4, b5, b6, b7, b8⟩ := hSq
  have kU : tx_T ar (tx_t (fun i => TX ((7 + p) * 16 + 8 + i)) 0 (RP p).length) := by rw [tx_shift TX ((7 + p) * 16 + 8), Nat.add_zero, a2]; exact a6
  have kV : tx_T ar (tx_t (fun i => TX ((7 + q) * 16 + i)) 0 (LP q).length) := by rw [tx_shift TX ((7 + q) * 16), Nat.add_zero, b1]; exact b5
  have eC : cf_C ar (fun i => TX ((7 + p) * 16 + 8 + i)) (fun i => TX ((7 + q) * 16 + i)) (zd_D TY0 R) ↔ ed_C ar TY0 LP RP R P p q := by
    have h := (cf_ext (a := ar) (U := fun i => TX ((7 + p) * 16 + 8 + i)) (V := fun i => TX ((7 + q) * 16 + i)) (U' := po_L (RP p)) (V' := po_L (LP q)) (df := zd_D TY0 R) (df' := zd_D TY0 R) (nU := (RP p).length) (nV := (LP q).length)
      kU kV a4 b3 (by rw [tx_shift TX ((7 + p) * 16 + 8), Nat.add_zero, a2]; exact (tx_ofl _).symm) (by rw [tx_shift TX ((7 + q) * 16), Nat.add_zero, b1]; exact (tx_ofl _).symm) (fun i hi => Iff.rfl)).2
    rw [h]
    exact ⟨fun z => ⟨hp, hq, z⟩, fun z => z.2.2⟩
  refine zx_connected (nU := (RP p).length) (nV := (LP q).length) hA hT hD (by omega) (by omega) (fun _ => rfl) (fun _ => rfl) kU kV a4 b3 (fun i hi => ?_) (fun i hi => ?_) (fun z => h1 (eC.mp z)) (fun z => h0 (fun z2 => z (eC.mpr z2)))
  · rw [a8 _ (by omega) (by omega), tx_zshift ar TX ((7 + p) * 16 + 8)]
    omega
  · rw [b7 _ (by omega) (by omega), tx_zshift ar TX ((7 + q) * 16)]
    omega
end
end
section
section
variable {x_pairSlot x_subjectBase x_filteredLeft x_filteredRight x_scratch x_allOrders x_equalMark x_termCells x_phase x_ruleCount x_pairCount x_lineCount x_defined x_openSide x_openMissing x_subjectLength x_subjectMissing : Int32} {x_tok x_end x_cut x_length x_precedences x_above x_greater x_relation x_arity x_shape x_kept x_bound x_links x_lines : Nat → Int32}
variable {y_cap y_phase y_rules y_pairs y_lines y_size : Int32} {y_m y_ar y_len y_pairAt y_rec y_digit y_level y_bind y_hide y_gt y_fit y_path : Nat → Int32}
def ck_good (ar : Nat → Nat) (LL RR LP RP : Nat → List Nat) (R P f o : Nat) (d c : Int32) : Prop :=
  (∀ p, p < 32 → bt d p = true → bt c p = true) ∧ wk_A ar f o LL RR LP RP R P c ∧ ∀ p, p < 32 → bt d p = true → p < P ∧ bt c p = true ∧ wk_s ar f o (LP p) (RP p)
def ck_low (d : Int32) (i : Nat) : Prop := i < 24 ∧ bt d i = true ∧ ∀ j, j < i → bt d j = false
def ck_g (C : Nat → Nat → Prop) (ar : Nat → Nat) (LL RR LP RP : Nat → List Nat) (R P : Nat) (rec : Nat → Int32) (q : Int32) (l : Nat) : Prop :=
  ∀ low f o c, ck_low (rec (l * 3)) low → fd_L ar f → rec (l * 3 + 1) = nI f → o < 24 → rec (l * 3 + 2) = nI (pl_T o) → gc_V C q low c → ck_good ar LL RR LP RP R P f o (rec (l * 3)) c
theorem ck_iff {C : Nat → Nat → Prop} {ar : Nat → Nat} {LL RR LP RP : Nat → List Nat} {R P : Nat} {rec : Nat → Int32} {q c : Int32} {l low f o : Nat} (h1 : ck_low (rec (l * 3)) low) (h2 : fd_L ar f) (h3 : rec (l * 3 + 1) = nI f) (h4 : o < 24) (h5 : rec (l * 3 + 2) = nI (pl_T o)) (h6 : gc_V C q low c) :
    ck_g C ar LL RR LP RP R P rec q l ↔ ck_good ar LL RR LP RP R P f o (rec (l * 3)) c := by
  constructor
  · intro h
    exact h low f o c h1 h2 h3 h4 h5 h6
  · intro h low' f' o' c' g1 g2 g3 g4 g5 g6
    have el : low' = low := by
      rcases Nat.lt_trichotomy low' low with z | z | z
      · have := g1.2.1; rw [h1.2.2 low' z] at this; exact absurd this (by decide)
      · exact z
      · have := g1.2.2 low z; rw [h1.2.1] at this; exact absurd this (by decide)
    have ef : f' = f := (nI_eq (by have := g2.1; omega) (by have := h2.1; omega)).mp (g3.symm.trans h3)
    have eo : o' = o := by
      have a1 := pl_f1 o' g4
      have a2 := pl_f1 o h4
      have : pl_T o' = pl_T o := (nI_eq (by omega) (by omega)).mp (g5.symm.trans h5)
      rw [← a1.2.2, ← a2.2.2, this]
    subst el
    subst ef
    subst eo
    rw [gc_uniq g6 h6]
    exact h
/-- a legal line -/
def ck_ln (ar : Nat → Nat) (P : Nat) (rec : Nat → Int32) (l : Nat) : Prop := (∃ low, low < P ∧ ck_low (rec (l * 3)) low) ∧ (∃ f, fd_L ar f ∧ rec (l * 3 + 1) = nI f) ∧ ∃ o, o < 24 ∧ rec (l * 3 + 2) = nI (pl_T o)
def ck_O (C : Nat → Nat → Prop) (ar : Nat → Nat) (LL RR LP RP : Nat → List Nat) (R P : Nat) (rec : Nat → Int32) : Nat → Nat → Int32 → Nat → Prop
  | 0, _, q, res => ((∃ p c, p < P ∧ gc_V C q p c ∧ c ≠ 0) ∧ res = 101) ∨ ((∀ p c, p < P → gc_V C q p c → c = 0) ∧ res = 100)
  | n + 1, l, q, res => (ck_g C ar LL RR LP RP R P rec q l ∧ ck_O C ar LL RR LP RP R P rec n (l + 1) (q &&& (rec (l * 3) ^^^ (-1))) res) ∨ (¬ ck_g C ar LL RR LP RP R P rec q l ∧ res = l)
theorem ck_det {C : Nat → Nat → Prop} {ar : Nat → Nat} {LL RR LP RP : Nat → List Nat} {R P : Nat} {rec : Nat → Int32} : ∀ n l q r1 r2, ck_O C ar LL RR LP RP R P rec n l q r1 → ck_O C ar LL RR LP RP R P rec n l q r2 → r1 = r2 := by
  intro n
  induction n with
  | zero =>
    rintro l q r1 r2 (⟨⟨p, c, a1, a2, a3⟩, e1⟩ | ⟨a, e1⟩) (⟨⟨p', c', b1, b2, b3⟩, e2⟩ | ⟨b, e2⟩)
    · omega
    · exact absurd (b p c a1 a2) a3
    · exact absurd (a p' c' b1 b2) b3
    · omega
  | succ n ih =>
    rintro l q r1 r2 (⟨a1, a2⟩ | ⟨a1, e1⟩) (⟨b1, b2⟩ | ⟨b1, e2⟩)
    · exact ih _ _ _ _ a2 b2
    · exact absurd a1 b1
    · exact absurd b1 a1
    · omega
/-- what the component's links say -/
def ck_X (C : Nat → Nat → Prop) (lk : Nat → Int32) : Prop := (∀ a b, C a b → a < 8 ∧ b < 8) ∧ (∀ r, r < 8 → ∀ s, s < 32 → (bt (lk r) s = true ↔ C r s)) ∧ ∀ r, r < 8 → ∀ s, s < 32 → (bt (lk (8 + r)) s = true ↔ C s r)
theorem zx_goodLine {post : Int32 → SX → Prop} {C : Nat → Nat → Prop} {TX0 en0 TX en ct ar pc sh kp : Nat → Nat} {gr rl : Nat → Int32} {LL RR LP RP : Nat → List Nat} {q : Int32} {R P l : Nat} (hA : fd_A ar)
    (hq : ∀ t, t < 8 → x_arity t = nI (ar t)) (hs : ∀ t, t < 8 → 4 ≤ t → sh t = 4 ∧ kp t = 0) (hab : pl_A x_above) (hpc : pl_P pc) (hT : wk_T ar TX0 en0 LL RR LP RP R P) (hW : wk_X TX0 en0 TX en ct gr) (hC : ck_X C x_links) (hl : l < 8) (hln : ck_ln ar P x_lines l)
    (hp : ∀ v TX en ct gr rl sh kp, wk_X TX0 en0 TX en ct gr → (∀ t, t < 8 → 4 ≤ t → sh t = 4 ∧ kp t = 0) → (v = 1 ∧ ck_g C ar LL RR LP RP R P x_lines q l) ∨ (v = 0 ∧ ¬ ck_g C ar LL RR LP RP R P x_lines q l) →
      post v (x_pairSlot, x_subjectBase, x_filteredLeft, x_filteredRight, x_scratch, x_allOrders, x_equalMark, x_termCells, x_phase, nI R, nI P, x_lineCount, x_defined, x_openSide, x_openMissing, x_subjectLength, x_subjectMissing, na_F TX, na_F en, na_F ct, x_length, na_F pc, x_above, gr, rl, x_arity, na_F sh, na_F kp, x_bound, x_links, x_lines)) :
    wpX_goodLine post (x_pairSlot, x_subjectBase, x_filteredLeft, x_filteredRight, x_scratch, x_allOrders, x_equalMark, x_termCells, x_phase, nI R, nI P, x_lineCount, x_defined, x_openSide, x_openMissing, x_subjectLength, x_subjectMissing, na_F TX, na_F en, na_F ct, x_length, na_F pc, x_above, gr, rl, x_arity, na_F sh, na_F kp, x_bound, x_links, x_lines) (nI l) q := by
  obtain ⟨⟨low, hlo, hlow⟩, ⟨f, hf, ef⟩, ⟨o, ho, eo⟩⟩ := hln
  have hP := hT.2.1
  have i0 : nI l * 3 = nI (l * 3) := pk_mul l 3
  have i1 : nI l * 3 + 1 = nI (l * 3 + 1) := by rw [i0]; exact nI_1 _
  have i2 : nI l * 3 + 2 = nI (l * 3 + 2) := by rw [i0]; exact nI_add _ 2
  refine ⟨pk_in (l * 3) 24 (by omega) i0, ?_⟩
  rw [i0, nI_clamp (by omega)]
  refine nm_e ?_
  refine zx_lowest (fun i hi hb hmin => ?_) (fun hno => ?_)
  · have ei : i = low := by
      rcases Nat.lt_trichotomy i low with z | z | z
      · rw [hlow.2.2 i z] at hb; exact absurd hb (by decide)
      · exact z
      · have := hmin low z; rw [hlow.2.1] at this; exact absurd this (by decide)
    subst ei
    refine zx_componentIn (C := C) (by omega) hC.1 hC.2.1 hC.2.2 (fun c hc => ?_)
    have key := ck_iff (R := R) (P := P) (LL := LL) (RR := RR) (LP := LP) (RP := RP) hlow hf ef ho eo hc
    refine br_c (fun hsub => ?_) (fun hsub => ?_)
    · have hsub' := zb_sub.mp hsub
      have j1 : nI (l * 3) + 1 = nI (l * 3 + 1) := nI_1 _
      have j2 : nI (l * 3) + 2 = nI (l * 3 + 2) := nI_add _ 2
      rw [j1, j2]
      refine ⟨vp_in_nI (by omega) (by omega), ?_⟩
      rw [nI_clamp (n := l * 3 + 1) (by omega), nI_clamp (n := l * 3 + 2) (by omega), ef]
      refine zx_load hA hf hq hs ?_
      intro sh' kp' hsh hkp
      have hs' : ∀ t, t < 8 → 4 ≤ t → sh' t = 4 ∧ kp' t = 0 := by
        intro t h8 h4
        rw [hsh t h8, hkp t h8, hA.2.2.2.2 t h4, fd_kpv hA f h4]
        exact ⟨rfl, rfl⟩
      refine ⟨vp_in_nI (by omega) (by omega), ?_⟩
      rw [eo]
      refine zx_precIx hpc (fun o' ho' e' => ?_) (fun hno => absurd rfl (hno o ho))
      have eoo : o' = o := by
        have a1 := pl_f1 o' ho'
        have a2 := pl_f1 o ho
        have : pl_T o = pl_T o' := (nI_eq (by omega) (by omega)).mp e'
        rw [← a1.2.2, ← a2.2.2, this]
      subst eoo
      refine zx_weak hA hf hq ⟨hsh, hkp⟩ hab hT hW ?_
      intro x TX' en' ct' gr' rl' hW' hx hR
      have qx := zb_q (n := o') (by omega) x
      by_cases hbx : bt x o' = true
      · refine br_f (fun z => by rw [qx.mp z] at hbx; exact absurd hbx (by decide)) ?_
        have hall := ((hx o' (by omega)).mp hbx).2
        have hx0 : x ≠ 0 := fun e => by rw [e, b_0] at hbx; exact absurd hbx (by decide)
        refine zx_strict hP ho' (hR hx0) (fun d hd => ?_)
        refine br_c (fun hs2 => ?_) (fun hs2 => ?_)
        · refine hp 1 TX' en' ct' gr' rl' sh' kp' hW' hs' (Or.inl ⟨rfl, key.mpr ⟨hsub', hall, fun p hp32 hbp => (hd p hp32).mp (zb_sub.mp hs2 p hp32 hbp)⟩⟩)
        · refine hp 0 TX' en' ct' gr' rl' sh' kp' hW' hs' (Or.inr ⟨rfl, fun z => hs2 (zb_sub.mpr fun p hp32 hbp => (hd p hp32).mpr ((key.mp z).2.2 p hp32 hbp))⟩)
      · have hbf : bt x o' = false := by cases h : bt x o'; rfl; exact absurd h hbx
        refine br_t (qx.mpr hbf) (hp 0 TX' en' ct' gr' rl' sh' kp' hW' hs' (Or.inr ⟨rfl, fun z => hbx ((hx o' (by omega)).mpr ⟨ho', (key.mp z).2.1⟩)⟩))
    · exact hp 0 TX en ct gr rl sh kp hW hs (Or.inr ⟨rfl, fun z => hsub (zb_sub.mpr (key.mp z).1)⟩)
  · have := hno low hlow.1
    rw [hlow.2.1] at this
    exact absurd this (by decide)
theorem zx_check {post : Int32 → SX → Prop} {C : Nat → Nat → Prop} {TX0 en0 ar pc : Nat → Nat} {LL RR LP RP : Nat → List Nat} {R P L : Nat} (hA : fd_A ar)
    (hq : ∀ t, t < 8 → x_arity t = nI (ar t)) (hab : pl_A x_above) (hpc : pl_P pc) (hT : wk_T ar TX0 en0 LL RR LP RP R P) (hC : ck_X C x_links) (hL : L ≤ 8) (hln : ∀ l, l < L → ck_ln ar P x_lines l) :
    ∀ n N l q TX en ct gr rl sh kp, n < N → l + n = L → wk_X TX0 en0 TX en ct gr → (∀ t, t < 8 → 4 ≤ t → sh t = 4 ∧ kp t = 0) →
      (∀ res TX en ct gr rl sh kp, ck_O C ar LL RR LP RP R P x_lines n l q res → wk_X TX0 en0 TX en ct gr → (∀ t, t < 8 → 4 ≤ t → sh t = 4 ∧ kp t = 0) →
        post (nI res) (x_pairSlot, x_subjectBase, x_filteredLeft, x_filteredRight, x_scratch, x_allOrders, x_equalMark, x_termCells, x_phase, nI R, nI P, nI L, x_defined, x_openSide, x_openMissing, x_subjectLength, x_subjectMissing, na_F TX, na_F en, na_F ct, x_length, na_F pc, x_above, gr, rl, x_arity, na_F sh, na_F kp, x_bound, x_links, x_lines)) →
      wX_check_21 post N q (nI l) x_pairSlot x_subjectBase x_filteredLeft x_filteredRight x_scratch x_allOrders x_equalMark x_termCells x_phase (nI R) (nI P) (nI L) x_defined x_openSide x_openMissing x_subjectLength x_subjectMissing (na_F TX) (na_F en) (na_F ct) x_length (na_F pc) x_above gr rl x_arity (na_F sh) (na_F kp) x_bound x_links x_lines := by
  have hP := hT.2.1
  intro n
  induction n with
  | zero =>
    intro N l q TX en ct gr rl sh kp hN hl hW hs hp
    obtain ⟨N, rfl⟩ : ∃ M, N = M + 1 := ⟨N - 1, by omega⟩
    refine br_t (nI_le (by omega) (by omega)) ⟨P + 1, ?_⟩
    have key : ∀ d N p, d < N → p + d = P → (∀ p' c, p' < p → gc_V C q p' c → c = 0) → wX_check_61 post q x_pairSlot x_subjectBase x_filteredLeft x_filteredRight x_scratch x_allOrders x_equalMark x_termCells x_phase (nI R) (nI P) (nI L) x_defined x_openSide x_openMissing x_subjectLength x_subjectMissing (na_F TX) (na_F en) (na_F ct) x_length (na_F pc) x_above gr rl x_arity (na_F sh) (na_F kp) x_bound x_links x_lines N (nI p) := by
      intro d
      induction d with
      | zero =>
        intro N p hN hpd h
        obtain ⟨N, rfl⟩ : ∃ M, N = M + 1 := ⟨N - 1, by omega⟩
        exact br_t (nI_le (by omega) (by omega)) (hp 100 TX en ct gr rl sh kp (Or.inr ⟨fun p' c hp' => h p' c (by omega), rfl⟩) hW hs)
      | succ d ih =>
        intro N p hN hpd h
        obtain ⟨N, rfl⟩ : ∃ M, N = M + 1 := ⟨N - 1, by omega⟩
        refine br_f (nI_ge (by omega) (by omega)) ?_
        refine zx_componentIn (C := C) (by omega) hC.1 hC.2.1 hC.2.2 (fun c hc => ?_)
        by_cases hc0 : c = 0
        · refine br_t hc0 ?_
          refine nm_r (e' := nI (p + 1)) (nI_1 p) (ih N (p + 1) (by omega) (by omega) (fun p' c' hp' hc' => ?_))
          by_cases e : p' = p
          · subst e
            rw [gc_uniq hc' hc]
            exact hc0
          · exact h p' c' (by omega) hc'
        · exact br_f hc0 (hp 101 TX en ct gr rl sh kp (Or.inl ⟨⟨p, c, by omega, hc, hc0⟩, rfl⟩) hW hs)
    exact key P (P + 1) 0 (by omega) (by omega) (fun p' c hp' => by omega)
  | succ n ih =>
    intro N l q TX en ct gr rl sh kp hN hl hW hs hp
    obtain ⟨N, rfl⟩ : ∃ M, N = M + 1 := ⟨N - 1, by omega⟩
    refine br_f (nI_ge (by omega) (by omega)) ?_
    refine zx_goodLine hA hq hs hab hpc hT hW hC (by omega) (hln l (by omega)) ?_
    intro v TX' en' ct' gr' rl' sh' kp' hW' hs' hv
    rcases hv with ⟨e, hg⟩ | ⟨e, hg⟩
    · subst e
      refine br_f (by decide) ⟨pk_in (l * 3) 24 (by omega) (pk_mul l 3), ?_⟩
      rw [show nI l * 3 = nI (l * 3) from pk_mul l 3, nI_clamp (by omega)]
      refine nm_e (nm_r (e' := nI (l + 1)) (nI_1 l) (ih N (l + 1) _ TX' en' ct' gr' rl' sh' kp' (by omega) (by omega) hW' hs' ?_))
      intro res TX2 en2 ct2 gr2 rl2 sh2 kp2 hO
      exact hp res TX2 en2 ct2 gr2 rl2 sh2 kp2 (Or.inl ⟨hg, hO⟩)
    · subst e
      exact br_t rfl (hp l TX' en' ct' gr' rl' sh' kp' (Or.inr ⟨hg, rfl⟩) hW' hs')
theorem zy_compW {post : Int32 → SY → Prop} {ar TY0 TY A dg lvl hd gt ft pt : Nat → Nat} {LL RR LP RP : Nat → List Nat} {q : Int32} {R P p : Nat} (hA : fd_A ar) (hU : wk_U ar TY0 y_pairAt LL RR LP RP R P) (h112 : ∀ p, p < P → ∃ pl pr, oy_P y_pairAt 1 p pl pr ∧ oy_T ar TY0 pl pr (LP p) (RP p) ∧ pl + (LP p).length ≤ 112 ∧ pr + (RP p).length ≤ 112) (hW : wk_Y ar TY0 TY A dg hd gt)
    (hp8 : p < 8) (hqP : ∀ a, bt q a = true → a < P) (hft : ∀ k, ft k < 2) (hpt : ∀ k, pt k < 2)
    (hp : ∀ c ft pt, gc_V (ed_C ar TY0 LP RP R P) q p c → (∀ k, ft k < 2) → (∀ k, pt k < 2) → post c (y_cap, y_phase, nI R, nI P, y_lines, y_size, na_F TY, na_F A, y_len, y_pairAt, y_rec, na_F dg, na_F lvl, y_bind, na_F hd, na_F gt, na_F ft, na_F pt)) :
    wpY_componentIn post (y_cap, y_phase, nI R, nI P, y_lines, y_size, na_F TY, na_F A, y_len, y_pairAt, y_rec, na_F dg, na_F lvl, y_bind, na_F hd, na_F gt, na_F ft, na_F pt) (nI p) q :=
  zy_componentIn (C := ed_C ar TY0 LP RP R P) hp8 hU.2.1 (fun a b h => ⟨h.1, h.2.1⟩) hqP hft hpt (fun a b ft pt post' ha hb hft h => zy_edgeW hA hU h112 hW ha hb hft h) hp
theorem zy_check {post : Int32 → SY → Prop} {ar TY0 : Nat → Nat} {LL RR LP RP : Nat → List Nat} {R P L : Nat} (hA : fd_A ar) (hU : wk_U ar TY0 y_pairAt LL RR LP RP R P) (h112 : ∀ p, p < P → ∃ pl pr, oy_P y_pairAt 1 p pl pr ∧ oy_T ar TY0 pl pr (LP p) (RP p) ∧ pl + (LP p).length ≤ 112 ∧ pr + (RP p).length ≤ 112) (hL : L ≤ 8) (hln : ∀ l, l < L → ck_ln ar P y_rec l) :
    ∀ n N l q TY A dg lvl hd gt ft pt, n < N → l + n = L → wk_Y ar TY0 TY A dg hd gt → (∀ k, ft k < 2) → (∀ k, pt k < 2) → (∀ a, bt q a = true → a < P) →
      (∀ res TY A dg lvl hd gt ft pt, ck_O (ed_C ar TY0 LP RP R P) ar LL RR LP RP R P y_rec n l q res → wk_Y ar TY0 TY A dg hd gt → (∀ k, ft k < 2) → (∀ k, pt k < 2) →
        post (nI res) (y_cap, y_phase, nI R, nI P, nI L, y_size, na_F TY, na_F A, y_len, y_pairAt, y_rec, na_F dg, na_F lvl, y_bind, na_F hd, na_F gt, na_F ft, na_F pt)) →
      wY_check_20 post N q (nI l) y_cap y_phase (nI R) (nI P) (nI L) y_size (na_F TY) (na_F A) y_len y_pairAt y_rec (na_F dg) (na_F lvl) y_bind (na_F hd) (na_F gt) (na_F ft) (na_F pt) := by
  have hP := hU.2.1
  intro n
  induction n with
  | zero =>
    intro N l q TY A dg lvl hd gt ft pt hN hl hW hft hpt hqP hp
    obtain ⟨N, rfl⟩ : ∃ M, N = M + 1 := ⟨N - 1, by omega⟩
    refine br_t (nI_le (by omega) (by omega)) ⟨P + 1, ?_⟩
    have key : ∀ d N p ft pt, d < N → p + d = P → (∀ k, ft k < 2) → (∀ k, pt k < 2) → (∀ p' c, p' < p → gc_V (ed_C ar TY0 LP RP R P) q p' c → c = 0) → wY_check_147 post q N (nI p) y_cap y_phase (nI R) (nI P) (nI L) y_size (na_F TY) (na_F A) y_len y_pairAt y_rec (na_F dg) (na_F lvl) y_bind (na_F hd) (na_F gt) (na_F ft) (na_F pt) := by
      intro d
      induction d with
      | zero =>
        intro N p ft pt hN hpd hft hpt h
        obtain ⟨N, rfl⟩ : ∃ M, N = M + 1 := ⟨N - 1, by omega⟩
        exact br_t (nI_le (by omega) (by omega)) (hp 100 TY A dg lvl hd gt ft pt (Or.inr ⟨fun p' c hp' => h p' c (by omega), rfl⟩) hW hft hpt)
      | succ d ih =>
        intro N p ft pt hN hpd hft hpt h
        obtain ⟨N, rfl⟩ : ∃ M, N = M + 1 := ⟨N - 1, by omega⟩
        refine br_f (nI_ge (by omega) (by omega)) ?_
        refine zy_compW hA hU h112 hW (by omega) hqP hft hpt (fun c ft' pt' hc hft' hpt' => ?_)
        by_cases hc0 : c = 0
        · refine br_t hc0 ?_
          refine nm_r (e' := nI (p + 1)) (nI_1 p) (ih N (p + 1) ft' pt' (by omega) (by omega) hft' hpt' (fun p' c' hp' hc' => ?_))
          by_cases e : p' = p
          · subst e
            rw [gc_uniq hc' hc]
            exact hc0
          · exact h p' c' (by omega) hc'
        · exact br_f hc0 (hp 101 TY A dg lvl hd gt ft' pt' (Or.inl ⟨⟨p, c, by omega, hc, hc0⟩, rfl⟩) hW hft' hpt')
    exact key P (P + 1) 0 ft pt (by omega) (by omega) hft hpt (fun p' c hp' => by omega)
  | succ n ih =>
    intro N l q TY A dg lvl hd gt ft pt hN hl hW hft hpt hqP hp
    obtain ⟨N, rfl⟩ : ∃ M, N = M + 1 := ⟨N - 1, by omega⟩
    obtain ⟨⟨low, hlo, hlow⟩, ⟨f, hf, ef⟩, ⟨o, ho, eo⟩⟩ := hln l (by omega)
    refine br_f (nI_ge (by omega) (by omega)) ?_
    have i0 : (3 : Int32) * nI l = nI (l * 3) := by
      rw [show l * 3 = 3 * l from Nat.mul_comm _ _]
      exact pk_mul 3 l
    rw [i0]
    refine ⟨vp_in_nI (by omega) (by omega), ?_⟩
    rw [nI_clamp (by omega)]
    refine nm_e ⟨9, ?_⟩
    -- behind the lowest bit
    have fin : ∀ N', wY_check_44 post (wY_check_20 post N) q (nI l) (y_rec (l * 3)) y_cap y_phase (nI R) (nI P) (nI L) y_size (na_F TY) (na_F A) y_len y_pairAt y_rec (na_F dg) (na_F lvl) y_bind (na_F hd) (na_F gt) (na_F ft) (na_F pt) (N' + 1) (nI low) (nI 0 - nI 1) := by
      intro N'
      refine br_t ni_nlt0 ?_
      refine zy_compW hA hU h112 hW (by omega) hqP hft hpt (fun c ft' pt' hc hft' hpt' => ?_)
      have key := ck_iff (R := R) (P := P) (LL := LL) (RR := RR) (LP := LP) (RP := RP) hlow hf ef ho eo hc
      refine br_c (fun hsub => ?_) (fun hsub => ?_)
      · have hsub' := zb_sub.mp hsub
        have i1 : (3 : Int32) * nI l + 1 = nI (l * 3 + 1) := by rw [i0]; exact nI_1 _
        have i2 : (3 : Int32) * nI l + 2 = nI (l * 3 + 2) := by rw [i0]; exact nI_add _ 2
        rw [i1, i2]
        refine ⟨vp_in_nI (by omega) (by omega), vp_in_nI (by omega) (by omega), ?_⟩
        rw [nI_clamp (by omega), nI_clamp (by omega), ef, eo]
        refine zy_judge hA hf ho hU hW (fun d TY' A' dg' lvl' hd' gt' hW' hall hd2 => ?_) (fun TY' A' dg' lvl' hd' gt' hW' hall => ?_)
        · obtain ⟨n2, hn2, en2⟩ := wk_bn hP hd2
          refine br_f (by rw [en2]; exact nI_pos (by omega)) ?_
          refine br_c (fun hs2 => ?_) (fun hs2 => ?_)
          · have hg := key.mpr ⟨hsub', hall, fun p hp32 hbp => (hd2 p hp32).mp (zb_sub.mp hs2 p hp32 hbp)⟩
            refine nm_e (nm_r (e' := nI (l + 1)) (nI_1 l) (ih N (l + 1) _ TY' A' dg' lvl' hd' gt' ft' pt' (by omega) (by omega) hW' hft' hpt' (fun a hba => hqP a ?_) ?_))
            · rw [b_and, Bool.and_eq_true] at hba
              exact hba.1
            · intro res TY2 A2 dg2 lvl2 hd3 gt2 ft2 pt2 hO
              exact hp res TY2 A2 dg2 lvl2 hd3 gt2 ft2 pt2 (Or.inl ⟨hg, hO⟩)
          · exact hp l TY' A' dg' lvl' hd' gt' ft' pt' (Or.inr ⟨fun z => hs2 (zb_sub.mpr fun p hp32 hbp => (hd2 p hp32).mpr ((key.mp z).2.2 p hp32 hbp)), rfl⟩) hW' hft' hpt'
        · exact br_t (by decide) (hp l TY' A' dg' lvl' hd' gt' ft' pt' (Or.inr ⟨fun z => hall (key.mp z).2.1, rfl⟩) hW' hft' hpt')
      · exact hp l TY A dg lvl hd gt ft' pt' (Or.inr ⟨fun z => hsub (zb_sub.mpr (key.mp z).1), rfl⟩) hW hft' hpt'
    have key : ∀ j N' lw, j < N' → j ≤ 8 → (low < j ∨ lw = low) → wY_check_44 post (wY_check_20 post N) q (nI l) (y_rec (l * 3)) y_cap y_phase (nI R) (nI P) (nI L) y_size (na_F TY) (na_F A) y_len y_pairAt y_rec (na_F dg) (na_F lvl) y_bind (na_F hd) (na_F gt) (na_F ft) (na_F pt) N' (nI lw) (nI j - nI 1) := by
      intro j
      induction j with
      | zero =>
        intro N' lw hN' hj hlw
        obtain ⟨N', rfl⟩ : ∃ M, N' = M + 1 := ⟨N' - 1, by omega⟩
        have : lw = low := by omega
        rw [this]
        exact fin N'
      | succ j ih2 =>
        intro N' lw hN' hj hlw
        obtain ⟨N', rfl⟩ : ∃ M, N' = M + 1 := ⟨N' - 1, by omega⟩
        rw [ni_sp]
        refine br_f (nI_pos (by omega)) ?_
        have q1 := zb_q1 (n := j) (by omega) (y_rec (l * 3))
        by_cases hb : bt (y_rec (l * 3)) j = true
        · refine br_t (q1.mpr hb) ?_
          refine nm_r (e' := nI j - nI 1) (ni_pm j) (ih2 N' j (by omega) (by omega) ?_)
          rcases Nat.lt_trichotomy low j with z | z | z
          · exact Or.inl z
          · exact Or.inr z.symm
          · have := hlow.2.2 j z
            rw [hb] at this
            exact absurd this (by decide)
        · refine br_f (fun z => hb (q1.mp z)) ?_
          refine nm_r (e' := nI j - nI 1) (ni_pm j) (ih2 N' lw (by omega) (by omega) ?_)
          rcases hlw with z | z
          · left
            have : low ≠ j := fun e => hb (by rw [← e]; exact hlow.2.1)
            omega
          · exact Or.inr z
    exact key 8 9 0 (by omega) (by omega) (Or.inl (by omega))
end
end
section
section
variable {x_pairSlot x_subjectBase x_filteredLeft x_filteredRight x_scratch x_allOrders x_equalMark x_termCells x_phase x_ruleCount x_pairCount x_lineCount x_defined x_openSide x_openMissing x_subjectLength x_subjectMissing : Int32} {x_tok x_end x_cut x_length x_precedences x_above x_greater x_relation x_arity x_shape x_kept x_bound x_links x_lines : Nat → Int32}
variable {y_cap y_phase y_rules y_pairs y_lines y_size : Int32} {y_m y_ar y_len y_pairAt y_rec y_digit y_level y_bind y_hide y_gt y_fit y_path : Nat → Int32}
def rn_S (nl : List Nat) (S : Nat → Nat) : Nat → Nat := fun i => if i < nl.length then nl.getD i 0 else S i
theorem rn_St (nl : List Nat) (S : Nat → Nat) : tx_t (rn_S nl S) 0 nl.length = nl := by
  have : tx_t (rn_S nl S) 0 nl.length = tx_t (fun i => nl.getD i 0) 0 nl.length := tx_congr fun i hi => by
    unfold rn_S
    rw [Nat.zero_add, if_pos hi]
  rw [this]
  exact tx_ofl nl
def rn_O (ar : Nat → Nat) (LL RR : Nat → List Nat) (R cap : Nat) : Nat → (Nat → Nat) → Nat → Nat → (Nat → Nat) → Nat → Prop
  | 0, S, N, res, S', N' => res = 2 ∧ S' = S ∧ N' = N
  | n + 1, S, N, res, S', N' => ((∀ k, k < N → ¬ mt_rd ar S LL R k) ∧ res = 1 ∧ S' = S ∧ N' = N) ∨
      ∃ k r b, k < N ∧ mt_I (mt_rd ar S LL R) (mt_E ar S) k ∧ (∀ i, i < k → ¬ mt_I (mt_rd ar S LL R) (mt_E ar S) i) ∧ r < R ∧ (∀ r', r' < r → mt_m ar S (LL r') k (fun _ => 0) = none) ∧ mt_m ar S (LL r) k (fun _ => 0) = some b ∧
        ((cap < (mt_nl ar S b N k (RR r)).length ∧ res = 3 ∧ S' = S ∧ N' = N) ∨ ((mt_nl ar S b N k (RR r)).length ≤ cap ∧ rn_O ar LL RR R cap n (rn_S (mt_nl ar S b N k (RR r)) S) (mt_nl ar S b N k (RR r)).length res S' N'))
theorem rn_det {ar : Nat → Nat} {LL RR : Nat → List Nat} {R cap : Nat} : ∀ n S N r1 S1 N1 r2 S2 N2, rn_O ar LL RR R cap n S N r1 S1 N1 → rn_O ar LL RR R cap n S N r2 S2 N2 → r1 = r2 ∧ S1 = S2 ∧ N1 = N2 := by
  intro n
  induction n with
  | zero =>
    rintro S N r1 S1 N1 r2 S2 N2 ⟨a1, a2, a3⟩ ⟨b1, b2, b3⟩
    exact ⟨by omega, by rw [a2, b2], by omega⟩
  | succ n ih =>
    rintro S N r1 S1 N1 r2 S2 N2 (⟨a0, a1, a2, a3⟩ | ⟨k, r, b, k1, k2, k3, k4, k5, k6, k7⟩) (⟨b0, b1, b2, b3⟩ | ⟨k', r', b', l1, l2, l3, l4, l5, l6, l7⟩)
    · exact ⟨by omega, by rw [a2, b2], by omega⟩
    · exact absurd l2.1 (a0 k' l1)
    · exact absurd k2.1 (b0 k k1)
    · have ek : k = k' := by
        rcases Nat.lt_trichotomy k k' with z | z | z
        · exact absurd k2 (l3 k z)
        · exact z
        · exact absurd l2 (k3 k' z)
      subst ek
      have er : r = r' := by
        rcases Nat.lt_trichotomy r r' with z | z | z
        · rw [l5 r z] at k6; exact absurd k6 (fun z => nomatch z)
        · exact z
        · rw [k5 r' z] at l6; exact absurd l6 (fun z => nomatch z)
      subst er
      have eb : b = b' := by
        rw [k6] at l6
        exact Option.some.inj l6
      subst eb
      rcases k7 with ⟨a0, a1, a2, a3⟩ | ⟨a0, a1⟩
      · rcases l7 with ⟨b0, b1, b2, b3⟩ | ⟨b0, b1⟩
        · exact ⟨by omega, by rw [a2, b2], by omega⟩
        · omega
      · rcases l7 with ⟨b0, b1, b2, b3⟩ | ⟨b0, b1⟩
        · omega
        · exact ih _ _ _ _ _ _ _ _ a1 b1
theorem mx_Lk {ar T en T' en' : Nat → Nat} {R : Nat} {LL : Nat → List Nat} (h : mx_L ar T en R LL) (h1 : ∀ k, k < 240 → T' k = T k) (h2 : ∀ k, k < 240 → en' k = en k) : mx_L ar T' en' R LL := by
  refine ⟨h.1, fun r hr => ?_⟩
  have hR := h.1
  obtain ⟨l1, l2, l3, l4⟩ := h.2 r hr
  refine ⟨l1, ?_, l3, by rw [h2 _ (by omega)]; exact l4⟩
  have : tx_t T' (r * 16) (LL r).length = tx_t T (r * 16) (LL r).length := tx_congr fun i hi => h1 _ (by omega)
  rw [this, l2]
theorem mx_Rk {ar T en T' en' : Nat → Nat} {r : Nat} {rl : List Nat} (h : mx_R ar T en r rl) (h1 : ∀ k, k < 240 → T' k = T k) (h2 : ∀ k, k < 240 → en' k = en k) : mx_R ar T' en' r rl := by
  obtain ⟨a1, a2, a3, a4, a5⟩ := h
  refine ⟨a1, a2, ?_, a4, by rw [h2 _ (by omega)]; exact a5⟩
  have : tx_t T' (r * 16 + 8) rl.length = tx_t T (r * 16 + 8) rl.length := tx_congr fun i hi => h1 _ (by omega)
  rw [this, a3]
theorem zx_run {post : Int32 → SX → Prop} {ar T0 en0 : Nat → Nat} {LL RR : Nat → List Nat} {R cap tot : Nat} (hA : fd_A ar) (hq : ∀ t, t < 8 → x_arity t = nI (ar t)) (hL0 : mx_L ar T0 en0 R LL) (hR0 : ∀ r, r < R → mx_R ar T0 en0 r (RR r)) (hV : ∀ r, r < R → ∀ v, v ∈ RR r → 4 ≤ v → v ∈ LL r) (hcap : cap ≤ 32) (htot : tot ≤ 16) :
    ∀ n N made S Nn T en bd, n < N → made + n = tot → (∀ k, k < 240 → T k = T0 k) → (∀ k, k < 240 → en k = en0 k) → mx_S ar T en S Nn →
      (∀ res S' N' T' en' bd', rn_O ar LL RR R cap n S Nn res S' N' → (∀ k, k < 240 → T' k = T0 k) → (∀ k, k < 240 → en' k = en0 k) → mx_S ar T' en' S' N' →
        post (nI res) (x_pairSlot, x_subjectBase, x_filteredLeft, x_filteredRight, x_scratch, x_allOrders, x_equalMark, nI cap, x_phase, nI R, x_pairCount, x_lineCount, x_defined, x_openSide, x_openMissing, nI N', x_subjectMissing, na_F T', na_F en', x_cut, x_length, x_precedences, x_above, x_greater, x_relation, x_arity, x_shape, x_kept, bd', x_links, x_lines)) →
      wX_run_20 post (nI tot) N (nI made) x_pairSlot x_subjectBase x_filteredLeft x_filteredRight x_scratch x_allOrders x_equalMark (nI cap) x_phase (nI R) x_pairCount x_lineCount x_defined x_openSide x_openMissing (nI Nn) x_subjectMissing (na_F T) (na_F en) x_cut x_length x_precedences x_above x_greater x_relation x_arity x_shape x_kept bd x_links x_lines := by
  intro n
  induction n with
  | zero =>
    intro N made S Nn T en bd hN hm h1 h2 C hp
    obtain ⟨N, rfl⟩ : ∃ M, N = M + 1 := ⟨N - 1, by omega⟩
    exact br_t (nI_le (by omega) (by omega)) (hp 2 S Nn T en bd ⟨rfl, rfl, rfl⟩ h1 h2 C)
  | succ n ih =>
    intro N made S Nn T en bd hN hm h1 h2 C hp
    obtain ⟨N, rfl⟩ : ∃ M, N = M + 1 := ⟨N - 1, by omega⟩
    have hL := mx_Lk hL0 h1 h2
    have c3 := C.2.2.1
    refine br_f (nI_ge (by omega) (by omega)) ?_
    refine zx_findRedex hA C hL (fun k bd1 hk hI hmin => ?_) (fun bd1 hno => ?_)
    · refine br_t (nI_pos' (by omega)) ?_
      obtain ⟨z1, z2, z3⟩ := tx_subk C.2.2.2.1 (by omega) (Nat.zero_le k) (by omega)
      refine zx_ruleAt hA C hL hk (fun r b bd2 hr hrm e hbd => ?_) (fun bd2 hno => ?_)
      · have hR := mx_Rk (hR0 r hr) h1 h2
        have hok := mt_ok (a := ar) (S := S) (N := Nn) hA.2.2.2.2 (by omega) (LL r) k (fun _ => 0) b 1 (tx_z ar S k) (hL.2 r hr).2.2.1 z1 (by omega) (fun v hv => absurd rfl hv) e
        have hB : mx_B ar S Nn b (RR r) := ⟨hok.1, fun v hm h4 => hok.2.2 v (hV r hr v hm h4) h4⟩
        have hlen := mt_nll (b := b) (rl := RR r) (show k + tx_z ar S k ≤ Nn by omega)
        refine zx_sizeAfter C hR hk hB hbd ?_
        rw [← hlen]
        have hrl : (mt_r ar S b (RR r)).length < 100000 := by
          have hb : ∀ l : List Nat, (∀ v, v ∈ l → 4 ≤ v → b v ≠ 0) → (mt_r ar S b l).length ≤ 33 * l.length := by
            intro l
            induction l with
            | nil => intro _; exact Nat.le_refl _
            | cons t l ih3 =>
              intro hv
              rw [mt_rlen, List.length_cons]
              have := ih3 (fun v hm => hv v (List.mem_cons_of_mem _ hm))
              by_cases h4 : t < 4
              · rw [if_pos h4]; omega
              · rw [if_neg h4]
                have := (hB.1 t (hv t (List.mem_cons_self ..) (by omega))).2.2
                omega
          have := hb (RR r) hB.2
          have := hR.2.1
          omega
        by_cases hle : (mt_nl ar S b Nn k (RR r)).length ≤ cap
        · refine br_t (nI_le hle (by omega)) ?_
          refine zx_replace hA hq C hR hk hB hbd (by omega) ?_
          intro T' en' q1 q2 q3 q4 q5 q6
          refine nm_r (e' := nI (made + 1)) (nI_1 made) ?_
          have eT : tx_t T' 240 (mt_nl ar S b Nn k (RR r)).length = mt_nl ar S b Nn k (RR r) := by
            have := rn_St (mt_nl ar S b Nn k (RR r)) S
            rw [← this]
            rw [this]
            rw [← this]
            rw [this]
            have e2 : tx_t T' 240 (mt_nl ar S b Nn k (RR r)).length = tx_t (rn_S (mt_nl ar S b Nn k (RR r)) S) 0 (mt_nl ar S b Nn k (RR r)).length := tx_congr fun i hi => by
              rw [Nat.zero_add]
              exact q3 i (by omega)
            rw [e2, this]
          refine ih N (made + 1) (rn_S (mt_nl ar S b Nn k (RR r)) S) (mt_nl ar S b Nn k (RR r)).length T' en' bd2 (by omega) (by omega) (fun j hj => by rw [q2 j hj, h1 j hj]) (fun j hj => by rw [q4 j hj, h2 j hj]) ⟨q1, q3, by omega, by rw [rn_St]; exact q6, fun j hj => ?_⟩ ?_
          · rw [q5 j hj]
            have e2 : tx_t T' 240 (mt_nl ar S b Nn k (RR r)).length = tx_t (rn_S (mt_nl ar S b Nn k (RR r)) S) 0 (mt_nl ar S b Nn k (RR r)).length := by rw [eT, rn_St]
            have := (tx_zeq (a := ar) (x := 240) (y := 0) (j := j) (by rw [eT]; exact q6) (by omega) e2 hj).2
            rw [Nat.zero_add] at this
            rw [this]
            omega
          · intro res S' N' T2 en2 bd3 hO
            exact hp res S' N' T2 en2 bd3 (Or.inr ⟨k, r, b, hk, hI, hmin, hr, hrm, e, Or.inr ⟨hle, hO⟩⟩)
        · refine br_f (nI_ge (by omega) (by omega)) (hp 3 S Nn T en bd2 (Or.inr ⟨k, r, b, hk, hI, hmin, hr, hrm, e, Or.inl ⟨by omega, rfl, rfl, rfl⟩⟩) h1 h2 C)
      · exfalso
        obtain ⟨r, hr, e⟩ := hI.1
        exact e (hno r hr)
    · exact br_f (by decide) (hp 1 S Nn T en bd1 (Or.inl ⟨hno, rfl, rfl, rfl⟩) h1 h2 C)
theorem my_Lk {ar T T' : Nat → Nat} {ln : Nat → Int32} {R : Nat} {LL : Nat → List Nat} (h : my_L ar T ln R LL) (h1 : ∀ k, k < 112 → T' k = T k) : my_L ar T' ln R LL := by
  refine ⟨h.1, fun r hr => ?_⟩
  have hR := h.1
  obtain ⟨l1, l2, l3, l4⟩ := h.2 r hr
  refine ⟨l1, ?_, l3, l4⟩
  have : tx_t T' (16 * r) (LL r).length = tx_t T (16 * r) (LL r).length := tx_congr fun i hi => h1 _ (by omega)
  rw [this, l2]
theorem my_Rk {ar T T' : Nat → Nat} {ln : Nat → Int32} {r : Nat} {rl : List Nat} (h : my_R ar T ln r rl) (h1 : ∀ k, k < 112 → T' k = T k) : my_R ar T' ln r rl := by
  obtain ⟨a1, a2, a3, a4, a5⟩ := h
  refine ⟨a1, a2, ?_, a4, a5⟩
  have : tx_t T' (16 * r + 8) rl.length = tx_t T (16 * r + 8) rl.length := tx_congr fun i hi => h1 _ (by omega)
  rw [this, a3]
theorem zy_run {post : Int32 → SY → Prop} {ar T0 : Nat → Nat} {LL RR : Nat → List Nat} {R cap tot : Nat} (hA : fd_A ar) (hq : ∀ t, t < 8 → y_ar t = nI (ar t)) (hL0 : my_L ar T0 y_len R LL) (hR0 : ∀ r, r < R → my_R ar T0 y_len r (RR r)) (hV : ∀ r, r < R → ∀ v, v ∈ RR r → 4 ≤ v → v ∈ LL r) (hcap : cap ≤ 32) (htot : tot ≤ 16) :
    ∀ n N made S Nn T bd, n < N → made + n = tot → (∀ k, k < 112 → T k = T0 k) → my_S ar T S Nn →
      (∀ res S' N' T' bd', rn_O ar LL RR R cap n S Nn res S' N' → (∀ k, k < 112 → T' k = T0 k) → my_S ar T' S' N' →
        post (nI res) (nI cap, y_phase, nI R, y_pairs, y_lines, nI N', na_F T', y_ar, y_len, y_pairAt, y_rec, y_digit, y_level, bd', y_hide, y_gt, y_fit, y_path)) →
      wY_run_38 post (nI tot) N (nI made) (nI cap) y_phase (nI R) y_pairs y_lines (nI Nn) (na_F T) y_ar y_len y_pairAt y_rec y_digit y_level bd y_hide y_gt y_fit y_path := by
  intro n
  induction n with
  | zero =>
    intro N made S Nn T bd hN hm h1 C hp
    obtain ⟨N, rfl⟩ : ∃ M, N = M + 1 := ⟨N - 1, by omega⟩
    exact br_t (nI_le (by omega) (by omega)) (hp 2 S Nn T bd ⟨rfl, rfl, rfl⟩ h1 C)
  | succ n ih =>
    intro N made S Nn T bd hN hm h1 C hp
    obtain ⟨N, rfl⟩ : ∃ M, N = M + 1 := ⟨N - 1, by omega⟩
    have hL := my_Lk hL0 h1
    have hRR := fun r hr => my_Rk (hR0 r hr) h1
    have c3 := C.2.2.1
    have c4 := C.2.2.2
    refine br_f (nI_ge (by omega) (by omega)) ⟨Nn + 1, ?_⟩
    refine zy_run50 hA hq C hL (fun k bd1 hk hI hmin => ?_) (fun bd1 hno => ?_) Nn (Nn + 1) 0 bd (by omega) (by omega) (fun j hj => by omega)
    · refine zy_run86 hA hq C hL hRR hV hcap hk hI.1 (by omega) (fun r b bd2 hr hrm e hgt => ?_) (fun r b bd2 T' hr hrm e hle q1 q2 q3 q4 => ?_)
      · exact hp 3 S Nn T bd2 (Or.inr ⟨k, r, b, hk, hI, hmin, hr, hrm, e, Or.inl ⟨hgt, rfl, rfl, rfl⟩⟩) h1 C
      · refine ih N (made + 1) (rn_S (mt_nl ar S b Nn k (RR r)) S) (mt_nl ar S b Nn k (RR r)).length T' bd2 (by omega) (by omega) (fun j hj => by rw [q2 j hj, h1 j hj]) ⟨q1, q3, by omega, by rw [rn_St]; exact q4⟩ ?_
        intro res S' N' T2 bd3 hO
        exact hp res S' N' T2 bd3 (Or.inr ⟨k, r, b, hk, hI, hmin, hr, hrm, e, Or.inr ⟨hle, hO⟩⟩)
    · refine hp 1 S Nn T bd1 (Or.inl ⟨fun k hk hrd => ?_, rfl, rfl, rfl⟩) h1 C
      -- a redex gives an innermost one
      have : ∀ d k, Nn - k < d → k < Nn → mt_rd ar S LL R k → False := by
        intro d
        induction d with
        | zero => intro k h; omega
        | succ d ih2 =>
          intro k hd hk hrd
          refine hno k hk ⟨hrd, fun i hi1 hi2 hri => ?_⟩
          obtain ⟨z1, z2, z3⟩ := tx_subk c4 (by omega) (Nat.zero_le k) (by omega)
          unfold mt_E at hi2
          exact ih2 i (by omega) (by omega) hri
      exact this (Nn + 1) k (by omega) hk hrd
end
end
section
section
variable {x_pairSlot x_subjectBase x_filteredLeft x_filteredRight x_scratch x_allOrders x_equalMark x_termCells x_phase x_ruleCount x_pairCount x_lineCount x_defined x_openSide x_openMissing x_subjectLength x_subjectMissing : Int32} {x_tok x_end x_cut x_length x_precedences x_above x_greater x_relation x_arity x_shape x_kept x_bound x_links x_lines : Nat → Int32}
variable {y_cap y_phase y_rules y_pairs y_lines y_size : Int32} {y_m y_ar y_len y_pairAt y_rec y_digit y_level y_bind y_hide y_gt y_fit y_path : Nat → Int32}
/-! the list of the pairs' places -/
def bp_D (T : Nat → Nat) (R t : Nat) : Bool := (List.range R).any (fun r => decide (T (16 * r) = t))
theorem bp_Dz (T : Nat → Nat) (R t : Nat) : bp_D T R t = true ↔ zd_D T R t := by
  unfold bp_D zd_D
  rw [List.any_eq_true]
  constructor
  · rintro ⟨r, hr, e⟩
    exact ⟨r, List.mem_range.mp hr, of_decide_eq_true e⟩
  · rintro ⟨r, hr, e⟩
    exact ⟨r, List.mem_range.mpr hr, decide_eq_true e⟩
def bp_i (D : Nat → Bool) (T : Nat → Nat) (b : Nat) : Nat → List Nat
  | 0 => []
  | n + 1 => bp_i D T b n ++ (if D (T (b + n)) then [b + n] else [])
def bp_r (D : Nat → Bool) (T len : Nat → Nat) : Nat → List Nat
  | 0 => []
  | r + 1 => bp_r D T len r ++ bp_i D T (16 * r + 8) (len (2 * r + 1))
theorem bp_ilen (D : Nat → Bool) (T : Nat → Nat) (b : Nat) : ∀ n, (bp_i D T b n).length ≤ n := by
  intro n
  induction n with
  | zero => exact Nat.le_refl _
  | succ n ih =>
    show (bp_i D T b n ++ (if D (T (b + n)) then [b + n] else [])).length ≤ n + 1
    rw [List.length_append]
    by_cases h : D (T (b + n)) = true
    · rw [if_pos h]
      show (bp_i D T b n).length + 1 ≤ n + 1
      omega
    · rw [if_neg h]
      show (bp_i D T b n).length + 0 ≤ n + 1
      omega
theorem bp_rlen (D : Nat → Bool) (T len : Nat → Nat) : ∀ R, (∀ r, r < R → len (2 * r + 1) ≤ 8) → (bp_r D T len R).length ≤ 8 * R := by
  intro R
  induction R with
  | zero => intro _; exact Nat.le_refl _
  | succ R ih =>
    intro h
    show (bp_r D T len R ++ bp_i D T (16 * R + 8) (len (2 * R + 1))).length ≤ 8 * (R + 1)
    rw [List.length_append]
    have h1 := ih (fun r hr => h r (by omega))
    have h2 := bp_ilen D T (16 * R + 8) (len (2 * R + 1))
    have h3 := h R (by omega)
    omega
theorem bp_imem {D : Nat → Bool} {T : Nat → Nat} {b q : Nat} : ∀ n, q ∈ bp_i D T b n → ∃ i, i < n ∧ q = b + i := by
  intro n
  induction n with
  | zero => intro h; exact absurd h (fun z => nomatch z)
  | succ n ih =>
    intro h
    rcases List.mem_append.mp h with h | h
    · obtain ⟨i, hi, e⟩ := ih h
      exact ⟨i, by omega, e⟩
    · by_cases hd : D (T (b + n)) = true
      · rw [if_pos hd] at h
        exact ⟨n, by omega, List.mem_singleton.mp h⟩
      · rw [if_neg hd] at h
        exact absurd h (fun z => nomatch z)
theorem bp_rmem {D : Nat → Bool} {T len : Nat → Nat} {q : Nat} : ∀ R, q ∈ bp_r D T len R → ∃ r i, r < R ∧ i < len (2 * r + 1) ∧ q = 16 * r + 8 + i := by
  intro R
  induction R with
  | zero => intro h; exact absurd h (fun z => nomatch z)
  | succ R ih =>
    intro h
    rcases List.mem_append.mp h with h | h
    · obtain ⟨r, i, h1, h2, h3⟩ := ih h
      exact ⟨r, i, by omega, h2, h3⟩
    · obtain ⟨i, hi, e⟩ := bp_imem _ h
      exact ⟨R, i, by omega, hi, e⟩
theorem bp_getD {l : List Nat} {p : Nat} (h : p < l.length) : l.getD p 0 ∈ l := by
  rw [List.getD_eq_getElem?_getD, List.getElem?_eq_getElem h]
  exact List.getElem_mem h
theorem bp_app1 {l : List Nat} {q p : Nat} (h : p < l.length) : (l ++ [q]).getD p 0 = l.getD p 0 := by
  rw [List.getD_eq_getElem?_getD, List.getD_eq_getElem?_getD, List.getElem?_append_left h]
theorem bp_app2 (l : List Nat) (q : Nat) : (l ++ [q]).getD l.length 0 = q := by
  rw [List.getD_eq_getElem?_getD, List.getElem?_append_right (Nat.le_refl _), Nat.sub_self]
  rfl
/-! counting (component) -/
theorem zx_countPairs {post : Int32 → SX → Prop} {T TY ln len : Nat → Nat} {R : Nat} (hR : R ≤ 6) (hT8 : ∀ k, TY k < 8) (hT : ∀ k, k < 112 → T k = TY k) (hln : ∀ i, i < 14 → ln i = len i) (hl8 : ∀ r, r < R → len (2 * r + 1) ≤ 8)
    (hp : ∀ df, cx_D df (zd_D TY R) → post (nI (bp_r (bp_D TY R) TY len R).length) (x_pairSlot, x_subjectBase, x_filteredLeft, x_filteredRight, x_scratch, x_allOrders, x_equalMark, x_termCells, x_phase, nI R, x_pairCount, x_lineCount, df, x_openSide, x_openMissing, x_subjectLength, x_subjectMissing, na_F T, x_end, x_cut, na_F ln, x_precedences, x_above, x_greater, x_relation, x_arity, x_shape, x_kept, x_bound, x_links, x_lines)) :
    wpX_countPairs post (x_pairSlot, x_subjectBase, x_filteredLeft, x_filteredRight, x_scratch, x_allOrders, x_equalMark, x_termCells, x_phase, nI R, x_pairCount, x_lineCount, x_defined, x_openSide, x_openMissing, x_subjectLength, x_subjectMissing, na_F T, x_end, x_cut, na_F ln, x_precedences, x_above, x_greater, x_relation, x_arity, x_shape, x_kept, x_bound, x_links, x_lines) := by
  have k45 : ∀ df, cx_D df (zd_D TY R) → ∀ d N r c, d < N → r + d = R → c = (bp_r (bp_D TY R) TY len r).length → wX_countPairs_45 post x_pairSlot x_subjectBase x_filteredLeft x_filteredRight x_scratch x_allOrders x_equalMark x_termCells x_phase (nI R) x_pairCount x_lineCount df x_openSide x_openMissing x_subjectLength x_subjectMissing (na_F T) x_end x_cut (na_F ln) x_precedences x_above x_greater x_relation x_arity x_shape x_kept x_bound x_links x_lines N (nI c) (nI r) := by
    intro df hdf d
    induction d with
    | zero =>
      intro N r c hN hr hc
      obtain ⟨N, rfl⟩ : ∃ M, N = M + 1 := ⟨N - 1, by omega⟩
      have e : r = R := by omega
      subst e
      rw [hc]
      exact br_t (nI_le (by omega) (by omega)) (hp df hdf)
    | succ d ih =>
      intro N r c hN hr hc
      obtain ⟨N, rfl⟩ : ∃ M, N = M + 1 := ⟨N - 1, by omega⟩
      refine br_f (nI_ge (by omega) (by omega)) ⟨9, ?_⟩
      have h8 := hl8 r (by omega)
      have el := hln (r * 2 + 1) (by omega)
      rw [show r * 2 + 1 = 2 * r + 1 by omega] at el
      have k55 : ∀ d N' i c, d < N' → i + d = len (2 * r + 1) → c = (bp_r (bp_D TY R) TY len r ++ bp_i (bp_D TY R) TY (16 * r + 8) i).length → wX_countPairs_55 post (wX_countPairs_45 post x_pairSlot x_subjectBase x_filteredLeft x_filteredRight x_scratch x_allOrders x_equalMark x_termCells x_phase (nI R) x_pairCount x_lineCount df x_openSide x_openMissing x_subjectLength x_subjectMissing (na_F T) x_end x_cut (na_F ln) x_precedences x_above x_greater x_relation x_arity x_shape x_kept x_bound x_links x_lines N) (nI r) x_pairSlot x_subjectBase x_filteredLeft x_filteredRight x_scratch x_allOrders x_equalMark x_termCells x_phase (nI R) x_pairCount x_lineCount df x_openSide x_openMissing x_subjectLength x_subjectMissing (na_F T) x_end x_cut (na_F ln) x_precedences x_above x_greater x_relation x_arity x_shape x_kept x_bound x_links x_lines N' (nI c) (nI i) := by
        intro d
        induction d with
        | zero =>
          intro N' i c hN' hi hc
          obtain ⟨N', rfl⟩ : ∃ M, N' = M + 1 := ⟨N' - 1, by omega⟩
          have e : i = len (2 * r + 1) := by omega
          rw [e] at hc
          have K := ih N (r + 1) c (by omega) (by omega) hc
          have ix : r * 2 + 1 = 2 * r + 1 := by omega
          simp (disch := omega) only [wX_countPairs_55, li_0, li_1, li_2, li_3, li_4, li_5, li_6, li_7, li_8, li_11, li_15, li_16, li_24, li_32, li_112, li_144, li_152, li_160, li_192, li_240, li_255, li_256, li_272, li_280, li_288, li_1295, li_1296, nI_add, pk_mul, pk_sub, ni_m1, nI_clamp, ni_in, nI_leI, nI_ltI, nI_eq, forall_eq, na_at, na_upd, Nat.zero_add, Nat.add_zero, ix, el]
          exact ⟨by omega, br_t (by omega) K⟩
        | succ d ih2 =>
          intro N' i c hN' hi hc
          obtain ⟨N', rfl⟩ : ∃ M, N' = M + 1 := ⟨N' - 1, by omega⟩
          have ix : r * 2 + 1 = 2 * r + 1 := by omega
          have iy : r * 16 + 8 + i = 16 * r + 8 + i := by omega
          have eT := hT (16 * r + 8 + i) (by omega)
          have t8 := hT8 (16 * r + 8 + i)
          have hv := zb_v (n := TY (16 * r + 8 + i)) (by omega) df
          have hD : bt df (TY (16 * r + 8 + i)) = bp_D TY R (TY (16 * r + 8 + i)) := by
            have h1 := hdf _ t8
            have h2 := bp_Dz TY R (TY (16 * r + 8 + i))
            cases e1 : bt df (TY (16 * r + 8 + i)) <;> cases e2 : bp_D TY R (TY (16 * r + 8 + i)) <;> simp [e1, e2] at h1 h2 ⊢
            · exact h1 h2
            · exact h2 h1
          have K := ih2 N' (i + 1) (c + (if bt df (TY (16 * r + 8 + i)) then 1 else 0)) (by omega) (by omega) (by
            show _ = (bp_r (bp_D TY R) TY len r ++ (bp_i (bp_D TY R) TY (16 * r + 8) i ++ (if bp_D TY R (TY (16 * r + 8 + i)) then [16 * r + 8 + i] else []))).length
            rw [← List.append_assoc, List.length_append, ← hc, hD]
            cases bp_D TY R (TY (16 * r + 8 + i)) <;> rfl)
          simp (disch := omega) only [wX_countPairs_55, li_0, li_1, li_2, li_3, li_4, li_5, li_6, li_7, li_8, li_11, li_15, li_16, li_24, li_32, li_112, li_144, li_152, li_160, li_192, li_240, li_255, li_256, li_272, li_280, li_288, li_1295, li_1296, nI_add, pk_mul, pk_sub, ni_m1, nI_clamp, ni_in, nI_leI, nI_ltI, nI_eq, forall_eq, na_at, na_upd, Nat.zero_add, Nat.add_zero, ix, iy, el, eT, hv]
          exact ⟨by omega, br_f (by omega) ⟨by omega, K⟩⟩
      exact k55 (len (2 * r + 1)) 9 0 c (by omega) (by omega) (by rw [hc]; show _ = (bp_r (bp_D TY R) TY len r ++ []).length; rw [List.append_nil])
  have k7 : ∀ d N r df, d < N → r + d = R → (∀ t, t < 8 → (bt df t = true ↔ ∃ r', r' < r ∧ TY (16 * r') = t)) → wX_countPairs_7 post x_pairSlot x_subjectBase x_filteredLeft x_filteredRight x_scratch x_allOrders x_equalMark x_termCells x_phase (nI R) x_pairCount x_lineCount x_openSide x_openMissing x_subjectLength x_subjectMissing (na_F T) x_end x_cut (na_F ln) x_precedences x_above x_greater x_relation x_arity x_shape x_kept x_bound x_links x_lines N (nI r) df := by
    intro d
    induction d with
    | zero =>
      intro N r df hN hr h
      obtain ⟨N, rfl⟩ : ∃ M, N = M + 1 := ⟨N - 1, by omega⟩
      have e : r = R := by omega
      rw [e] at h
      exact br_t (nI_le (by omega) (by omega)) ⟨R + 1, k45 df h R (R + 1) 0 0 (by omega) (by omega) rfl⟩
    | succ d ih =>
      intro N r df hN hr h
      obtain ⟨N, rfl⟩ : ∃ M, N = M + 1 := ⟨N - 1, by omega⟩
      refine br_f (nI_ge (by omega) (by omega)) ⟨pk_in (r * 16) 320 (by omega) (pk_mul r 16), ?_⟩
      rw [show nI r * 16 = nI (r * 16) from pk_mul r 16, nI_clamp (by omega), na_at, hT _ (by omega), show r * 16 = 16 * r from Nat.mul_comm _ _]
      have t8 := hT8 (16 * r)
      refine nm_e (nm_r (e' := nI (r + 1)) (nI_1 r) (ih N (r + 1) _ (by omega) (by omega) (fun t ht => ?_)))
      have eb : bt ((1 : Int32) <<< (nI (TY (16 * r)) &&& 31)) t = decide (t = TY (16 * r)) := zb_one (by omega) (by omega)
      rw [b_or, Bool.or_eq_true, eb, h t ht]
      constructor
      · rintro (⟨r', h1, h2⟩ | z)
        · exact ⟨r', by omega, h2⟩
        · exact ⟨r, by omega, (of_decide_eq_true z).symm⟩
      · rintro ⟨r', h1, h2⟩
        by_cases e : r' = r
        · right
          rw [e] at h2
          exact decide_eq_true h2.symm
        · exact Or.inl ⟨r', by omega, h2⟩
  exact ⟨R + 1, k7 R (R + 1) 0 0 (by omega) (by omega) (fun t ht => ⟨fun z => absurd z (by rw [b_0]; decide), fun ⟨r', h1, _⟩ => by omega⟩)⟩
/-! building (reference) -/
theorem zy_build {post : Int32 → SY → Prop} {TY len pa : Nat → Nat} {R : Nat} (hR : R ≤ 6) (hT8 : ∀ k, TY k < 8) (hl8 : ∀ r, r < R → len (2 * r + 1) ≤ 8) (h0 : len (2 * R) = 0)
    (hbig : ∀ pa, 8 < (bp_r (bp_D TY R) TY len R).length → post (-2) (y_cap, nI 0, nI R, y_pairs, y_lines, y_size, na_F TY, y_ar, na_F len, na_F pa, y_rec, y_digit, y_level, y_bind, y_hide, y_gt, y_fit, y_path))
    (hok : ∀ pa, (bp_r (bp_D TY R) TY len R).length ≤ 8 → (∀ p, p < (bp_r (bp_D TY R) TY len R).length → pa p = (bp_r (bp_D TY R) TY len R).getD p 0) → post (nI (bp_r (bp_D TY R) TY len R).length) (y_cap, 1, nI R, nI (bp_r (bp_D TY R) TY len R).length, 0, y_size, na_F TY, y_ar, na_F len, na_F pa, y_rec, y_digit, y_level, y_bind, y_hide, y_gt, y_fit, y_path)) :
    wpY_build post (y_cap, nI 0, nI R, y_pairs, y_lines, y_size, na_F TY, y_ar, na_F len, na_F pa, y_rec, y_digit, y_level, y_bind, y_hide, y_gt, y_fit, y_path) := by
  have hlen := bp_rlen (bp_D TY R) TY len R hl8
  refine br_f (by decide) ⟨pk_in (2 * R) 14 (by omega) (pk_mul 2 R), ?_⟩
  rw [show (2 : Int32) * nI R = nI (2 * R) from pk_mul 2 R, nI_clamp (by omega), na_at, h0]
  refine br_t (by decide) ⟨R + 1, ?_⟩
  have key : ∀ d N r c pa, d < N → r + d = R → c = (bp_r (bp_D TY R) TY len r).length → (∀ p, p < c → p < 8 → pa p = (bp_r (bp_D TY R) TY len r).getD p 0) → wY_build_28 post y_cap (nI 0) (nI R) y_pairs y_lines y_size N (nI c) (nI r) (na_F TY) y_ar (na_F len) (na_F pa) y_rec y_digit y_level y_bind y_hide y_gt y_fit y_path := by
    intro d
    induction d with
    | zero =>
      intro N r c pa hN hr hc hpa
      obtain ⟨N, rfl⟩ : ∃ M, N = M + 1 := ⟨N - 1, by omega⟩
      have e : r = R := by omega
      subst e
      refine br_t (nI_le (by omega) (by omega)) ?_
      by_cases h8 : c ≤ 8
      · rw [hc]
        refine br_t (nI_le (b := 8) (by omega) (by omega)) (hok pa (by omega) (fun p hp => hpa p (by omega) (by omega)))
      · refine br_f (nI_ge (a := 8) (by omega) (by omega)) (hbig pa (by omega))
    | succ d ih =>
      intro N r c pa hN hr hc hpa
      obtain ⟨N, rfl⟩ : ∃ M, N = M + 1 := ⟨N - 1, by omega⟩
      refine br_f (nI_ge (by omega) (by omega)) ⟨9, ?_⟩
      have h8 := hl8 r (by omega)
      have hrl := bp_rlen (bp_D TY R) TY len r (fun r' hr' => hl8 r' (by omega))
      have k38 : ∀ d N' i c pa, d < N' → i + d = len (2 * r + 1) → c = (bp_r (bp_D TY R) TY len r ++ bp_i (bp_D TY R) TY (16 * r + 8) i).length → (∀ p, p < c → p < 8 → pa p = (bp_r (bp_D TY R) TY len r ++ bp_i (bp_D TY R) TY (16 * r + 8) i).getD p 0) →
          wY_build_38 post (wY_build_28 post y_cap (nI 0) (nI R) y_pairs y_lines y_size N) (nI r) y_cap (nI 0) (nI R) y_pairs y_lines y_size N' (nI c) (nI i) (na_F TY) y_ar (na_F len) (na_F pa) y_rec y_digit y_level y_bind y_hide y_gt y_fit y_path := by
        intro d
        induction d with
        | zero =>
          intro N' i c pa hN' hi hc hpa
          obtain ⟨N', rfl⟩ : ∃ M, N' = M + 1 := ⟨N' - 1, by omega⟩
          have e : i = len (2 * r + 1) := by omega
          rw [e] at hc hpa
          have K := ih N (r + 1) c pa (by omega) (by omega) hc hpa
          simp (disch := omega) only [wY_build_38, li_0, li_1, li_2, li_3, li_4, li_5, li_6, li_7, li_8, li_11, li_15, li_16, li_24, li_32, li_112, li_144, li_152, li_160, li_192, li_240, li_255, li_256, li_272, li_280, li_288, li_1295, li_1296, nI_add, pk_mul, pk_sub, ni_m1, nI_clamp, ni_in, nI_leI, nI_ltI, nI_eq, forall_eq, na_at, na_upd, Nat.zero_add, Nat.add_zero]
          exact ⟨by omega, br_t (by omega) K⟩
        | succ d ih2 =>
          intro N' i c pa hN' hi hc hpa
          obtain ⟨N', rfl⟩ : ∃ M, N' = M + 1 := ⟨N' - 1, by omega⟩
          have hil := bp_ilen (bp_D TY R) TY (16 * r + 8) i
          have hc60 : c < 100 := by rw [hc, List.length_append]; omega
          have hz := bp_Dz TY R (TY (16 * r + 8 + i))
          have es : bp_r (bp_D TY R) TY len r ++ bp_i (bp_D TY R) TY (16 * r + 8) (i + 1) = (bp_r (bp_D TY R) TY len r ++ bp_i (bp_D TY R) TY (16 * r + 8) i) ++ (if bp_D TY R (TY (16 * r + 8 + i)) then [16 * r + 8 + i] else []) := by rw [List.append_assoc]; rfl
          simp (disch := omega) only [wY_build_38, li_0, li_1, li_2, li_3, li_4, li_5, li_6, li_7, li_8, li_11, li_15, li_16, li_24, li_32, li_112, li_144, li_152, li_160, li_192, li_240, li_255, li_256, li_272, li_280, li_288, li_1295, li_1296, nI_add, pk_mul, pk_sub, ni_m1, nI_clamp, ni_in, nI_leI, nI_ltI, nI_eq, forall_eq, na_at, na_upd, Nat.zero_add, Nat.add_zero]
          refine ⟨by omega, br_f (by omega) ⟨by omega, ?_⟩⟩
          refine zy_defined hT8 (by omega) (hT8 _) (fun hd => br_f (by decide) ?_) (fun hd => br_t (by decide) ?_)
          · have hDt := hz.mpr hd
            rw [hDt, if_pos rfl] at es
            refine br_c (fun q => ?_) (fun q => ⟨by omega, ?_⟩)
            · refine ih2 N' (i + 1) (c + 1) pa (by omega) (by omega) (by rw [es, List.length_append, ← hc]; rfl) (fun p hp1 hp2 => ?_)
              rw [es, bp_app1 (by omega)]
              exact hpa p (by omega) hp2
            · refine ih2 N' (i + 1) (c + 1) _ (by omega) (by omega) (by rw [es, List.length_append, ← hc]; rfl) (fun p hp1 hp2 => ?_)
              rw [es]
              by_cases e : p = c
              · rw [e, na_us, hc, bp_app2]
              · rw [na_un e, bp_app1 (by omega)]
                exact hpa p (by omega) hp2
          · have hDf : bp_D TY R (TY (16 * r + 8 + i)) = false := by
              cases h : bp_D TY R (TY (16 * r + 8 + i)) with
              | false => rfl
              | true => exact absurd (hz.mp h) hd
            rw [hDf] at es
            have es' : bp_r (bp_D TY R) TY len r ++ bp_i (bp_D TY R) TY (16 * r + 8) (i + 1) = bp_r (bp_D TY R) TY len r ++ bp_i (bp_D TY R) TY (16 * r + 8) i := by rw [es]; exact List.append_nil _
            exact ih2 N' (i + 1) c pa (by omega) (by omega) (by rw [es', ← hc]) (by rw [es']; exact hpa)
      exact k38 (len (2 * r + 1)) 9 0 c pa (by omega) (by omega) (by rw [hc]; show _ = (bp_r (bp_D TY R) TY len r ++ []).length; rw [List.append_nil]) (by
        show ∀ p, p < c → p < 8 → pa p = (bp_r (bp_D TY R) TY len r ++ []).getD p 0
        rw [List.append_nil]
        exact hpa)
  exact key R (R + 1) 0 0 pa (by omega) (by omega) rfl (fun p hp => by omega)
end
end
section
section
variable {x_pairSlot x_subjectBase x_filteredLeft x_filteredRight x_scratch x_allOrders x_equalMark x_termCells x_phase x_ruleCount x_pairCount x_lineCount x_defined x_openSide x_openMissing x_subjectLength x_subjectMissing : Int32} {x_tok x_end x_cut x_length x_precedences x_above x_greater x_relation x_arity x_shape x_kept x_bound x_links x_lines : Nat → Int32}
def zr_LL (T len : Nat → Nat) (r : Nat) : List Nat := tx_t T (16 * r) (len (2 * r))
def zr_RR (T len : Nat → Nat) (r : Nat) : List Nat := tx_t T (16 * r + 8) (len (2 * r + 1))
def zr_LP (T len pa : Nat → Nat) (p : Nat) : List Nat := tx_t T (pa p / 16 * 16) (len (2 * (pa p / 16)))
def zr_RP (a T pa : Nat → Nat) (p : Nat) : List Nat := tx_t T (pa p) (tx_z a T (pa p))
/-- a stored rule -/
def zr_rule (ar T en len : Nat → Nat) (r : Nat) : Prop :=
  len (2 * r) ≤ 8 ∧ len (2 * r + 1) ≤ 8 ∧ tx_T ar (zr_LL T len r) ∧ tx_T ar (zr_RR T len r) ∧ T (16 * r) < 4 ∧ (∀ v, v ∈ zr_RR T len r → 4 ≤ v → v ∈ zr_LL T len r) ∧
  (∀ k, 16 * r ≤ k → k < 16 * r + len (2 * r) → en k = k + tx_z ar T k) ∧ (∀ k, 16 * r + 8 ≤ k → k < 16 * r + 8 + len (2 * r + 1) → en k = k + tx_z ar T k)
theorem zx_placeText {post : SX → Prop} {ar T en ln : Nat → Nat} {fr n sd : Nat} (hA : fd_A ar) (hq : ∀ t, t < 8 → x_arity t = nI (ar t)) (hT : ∀ k, T k < 8) (hfr : fr + n ≤ 112) (h14 : 14 ≤ sd) (h30 : sd < 30) (hn : n ≤ 8) (e : en fr = fr + n) (hl : tx_T ar (tx_t T fr n))
    (hp : ∀ T' en', (∀ k, T' k < 8) → (∀ k, k < sd * 8 ∨ sd * 8 + 8 ≤ k → T' k = T k) → tx_t T' (sd * 8) n = tx_t T fr n → (∀ k, k < sd * 8 ∨ sd * 8 + 8 ≤ k → en' k = en k) → (∀ k, sd * 8 ≤ k → k < sd * 8 + n → en' k = k + tx_z ar T' k) →
      post (x_pairSlot, x_subjectBase, x_filteredLeft, x_filteredRight, x_scratch, x_allOrders, x_equalMark, x_termCells, x_phase, x_ruleCount, x_pairCount, x_lineCount, x_defined, x_openSide, x_openMissing, x_subjectLength, x_subjectMissing, na_F T', na_F en', x_cut, na_F (na_u ln sd n), x_precedences, x_above, x_greater, x_relation, x_arity, x_shape, x_kept, x_bound, x_links, x_lines)) :
    wpX_placeText post (x_pairSlot, x_subjectBase, x_filteredLeft, x_filteredRight, x_scratch, x_allOrders, x_equalMark, x_termCells, x_phase, x_ruleCount, x_pairCount, x_lineCount, x_defined, x_openSide, x_openMissing, x_subjectLength, x_subjectMissing, na_F T, na_F en, x_cut, na_F ln, x_precedences, x_above, x_greater, x_relation, x_arity, x_shape, x_kept, x_bound, x_links, x_lines) (nI fr) (nI sd) := by
  have hpos : 0 < n := by have := tx_T_pos hl; rw [tx_len] at this; exact this
  refine ⟨vp_in_nI (by omega) (by omega), ?_⟩
  rw [nI_clamp (n := fr) (by omega), nI_clamp (n := sd) (by omega), na_at, e, show nI sd * 8 = nI (sd * 8) from pk_mul sd 8]
  refine zx_copy (by omega) (by omega) (by omega) (by omega) ?_
  intro T1 hT1
  rw [show fr + n - fr = n by omega] at hT1 ⊢
  have eT : tx_t T1 (sd * 8) n = tx_t T fr n := tx_congr fun i hi => by
    rw [hT1, if_pos (by omega)]
    congr 1
    omega
  have h8 : ∀ k, T1 k < 8 := fun k => by rw [hT1]; split; exact hT _; exact hT _
  refine ⟨vp_in_nI (by omega) (by omega), ?_⟩
  rw [show nI (sd * 8 + n) - nI (sd * 8) = nI n from by rw [pk_sub (by omega)]; congr 1; omega, na_upd]
  refine nm_e ⟨vp_in_nI (by omega) (by omega), ?_⟩
  rw [na_at, na_us]
  refine zx_markEnds (q := ar) h8 (fd_A3 hA) (fun t ht => ⟨fun _ => hq t ht, fun z => absurd rfl z⟩) (by omega) (by omega) (by rw [eT]; exact hl) ?_
  intro en' h1 h2
  exact hp T1 en' h8 (fun k hk => by rw [hT1, if_neg (by omega)]) eT (fun k hk => h2 k (by omega)) h1
/-- the pairs placed so far -/
def bd_I (ar TY len T en ln : Nat → Nat) (pl : List Nat) : Prop := ∀ p, p < pl.length →
  ox_S ar T en (7 + p) (tx_t TY (pl.getD p 0 / 16 * 16) (len (2 * (pl.getD p 0 / 16)))) (tx_t TY (pl.getD p 0) (tx_z ar TY (pl.getD p 0))) ∧ ln ((7 + p) * 2) = len (2 * (pl.getD p 0 / 16)) ∧ ln ((7 + p) * 2 + 1) = tx_z ar TY (pl.getD p 0)
def bd_B (TY T0 en0 len T en ln : Nat → Nat) : Prop := (∀ k, T k < 8) ∧ (∀ k, k < 112 → T k = TY k) ∧ (∀ k, k < 112 ∨ 240 ≤ k → T k = T0 k) ∧ (∀ k, k < 112 ∨ 240 ≤ k → en k = en0 k) ∧ ∀ i, i < 14 → ln i = len i
theorem bp_imono (D : Nat → Bool) (T : Nat → Nat) (b : Nat) : ∀ d n, (bp_i D T b n).length ≤ (bp_i D T b (n + d)).length := by
  intro d n
  induction d with
  | zero => exact Nat.le_refl _
  | succ d ih =>
    have : (bp_i D T b (n + d + 1)).length = (bp_i D T b (n + d)).length + (if D (T (b + (n + d))) then [b + (n + d)] else []).length := by
      show (bp_i D T b (n + d) ++ (if D (T (b + (n + d))) then [b + (n + d)] else [])).length = _
      rw [List.length_append]
    rw [← Nat.add_assoc, this]
    omega
theorem bp_rmono (D : Nat → Bool) (T len : Nat → Nat) : ∀ d r, (bp_r D T len r).length ≤ (bp_r D T len (r + d)).length := by
  intro d r
  induction d with
  | zero => exact Nat.le_refl _
  | succ d ih =>
    have : (bp_r D T len (r + d + 1)).length = (bp_r D T len (r + d)).length + (bp_i D T (16 * (r + d) + 8) (len (2 * (r + d) + 1))).length := by
      show (bp_r D T len (r + d) ++ bp_i D T (16 * (r + d) + 8) (len (2 * (r + d) + 1))).length = _
      rw [List.length_append]
    rw [← Nat.add_assoc, this]
    omega
theorem bp_pre (D : Nat → Bool) (T len : Nat → Nat) {r i R : Nat} (hr : r < R) (hi : i ≤ len (2 * r + 1)) : (bp_r D T len r ++ bp_i D T (16 * r + 8) i).length ≤ (bp_r D T len R).length := by
  have h1 := bp_rmono D T len (R - (r + 1)) (r + 1)
  rw [show r + 1 + (R - (r + 1)) = R by omega] at h1
  have h2 : (bp_r D T len (r + 1)).length = (bp_r D T len r).length + (bp_i D T (16 * r + 8) (len (2 * r + 1))).length := by
    show (bp_r D T len r ++ bp_i D T (16 * r + 8) (len (2 * r + 1))).length = _
    rw [List.length_append]
  have h3 := bp_imono D T (16 * r + 8) (len (2 * r + 1) - i) i
  rw [show i + (len (2 * r + 1) - i) = len (2 * r + 1) by omega] at h3
  rw [List.length_append]
  omega
/-- a subterm of a rule's text, read through T -/
theorem zr_sub {ar TY T : Nat → Nat} {b n k : Nat} (hb : b + n ≤ 112) (hl : tx_T ar (tx_t TY b n)) (hT : ∀ k, k < 112 → T k = TY k) (h1 : b ≤ k) (h2 : k < b + n) :
    tx_T ar (tx_t TY k (tx_z ar TY k)) ∧ k + tx_z ar TY k ≤ b + n ∧ 0 < tx_z ar TY k ∧ tx_t T k (tx_z ar TY k) = tx_t TY k (tx_z ar TY k) ∧ tx_z ar T k = tx_z ar TY k := by
  obtain ⟨z1, z2, z3⟩ := tx_subk hl (by omega) h1 h2
  have e : tx_t T k (tx_z ar TY k) = tx_t TY k (tx_z ar TY k) := tx_congr fun i hi => hT _ (by omega)
  exact ⟨z1, z2, z3, e, tx_z_of (by rw [e]; exact z1) (by omega)⟩
theorem zx_addPairs {post : SX → Prop} {ar TY T0 en0 len : Nat → Nat} {R r : Nat} (hA : fd_A ar) (hq : ∀ t, t < 8 → x_arity t = nI (ar t)) (hR : R ≤ 6) (hr : r < R) (hT8 : ∀ k, TY k < 8) (hrule : ∀ r, r < R → zr_rule ar TY en0 len r) (hdf : cx_D x_defined (zd_D TY R)) (htot : (bp_r (bp_D TY R) TY len R).length ≤ 8)
    (hp : ∀ T en ln, bd_B TY T0 en0 len T en ln → bd_I ar TY len T en ln (bp_r (bp_D TY R) TY len (r + 1)) → post (x_pairSlot, x_subjectBase, x_filteredLeft, x_filteredRight, x_scratch, x_allOrders, x_equalMark, x_termCells, x_phase, x_ruleCount, nI (bp_r (bp_D TY R) TY len (r + 1)).length, x_lineCount, x_defined, x_openSide, x_openMissing, x_subjectLength, x_subjectMissing, na_F T, na_F en, x_cut, na_F ln, x_precedences, x_above, x_greater, x_relation, x_arity, x_shape, x_kept, x_bound, x_links, x_lines)) :
    ∀ T en ln, bd_B TY T0 en0 len T en ln → bd_I ar TY len T en ln (bp_r (bp_D TY R) TY len r) → wpX_addPairs post (x_pairSlot, x_subjectBase, x_filteredLeft, x_filteredRight, x_scratch, x_allOrders, x_equalMark, x_termCells, x_phase, x_ruleCount, nI (bp_r (bp_D TY R) TY len r).length, x_lineCount, x_defined, x_openSide, x_openMissing, x_subjectLength, x_subjectMissing, na_F T, na_F en, x_cut, na_F ln, x_precedences, x_above, x_greater, x_relation, x_arity, x_shape, x_kept, x_bound, x_links, x_lines) (nI r) := by
  obtain ⟨u1, u2, u3, u4, u5, u6, u7, u8⟩ := hrule r hr
  unfold zr_LL at u3
  unfold zr_RR at u4
  have hl1 : 0 < len (2 * r) := by have := tx_T_pos u3; rw [tx_len] at this; exact this
  have key : ∀ d N i T en ln, d < N → i + d = len (2 * r + 1) → bd_B TY T0 en0 len T en ln → bd_I ar TY len T en ln (bp_r (bp_D TY R) TY len r ++ bp_i (bp_D TY R) TY (16 * r + 8) i) →
      wX_addPairs_10 post (nI r) (nI (16 * r + 8)) N (nI (16 * r + 8 + i)) x_pairSlot x_subjectBase x_filteredLeft x_filteredRight x_scratch x_allOrders x_equalMark x_termCells x_phase x_ruleCount (nI (bp_r (bp_D TY R) TY len r ++ bp_i (bp_D TY R) TY (16 * r + 8) i).length) x_lineCount x_defined x_openSide x_openMissing x_subjectLength x_subjectMissing (na_F T) (na_F en) x_cut (na_F ln) x_precedences x_above x_greater x_relation x_arity x_shape x_kept x_bound x_links x_lines := by
    intro d
    induction d with
    | zero =>
      intro N i T en ln hN hi hB hI
      obtain ⟨N, rfl⟩ : ∃ M, N = M + 1 := ⟨N - 1, by omega⟩
      have e : i = len (2 * r + 1) := by omega
      rw [e] at hI ⊢
      have el := hB.2.2.2.2 (2 * r + 1) (by omega)
      refine ⟨pk_in (r * 2 + 1) 30 (by omega) (by rw [← nI_add, ← pk_mul]; rfl), br_t ?_ (hp T en ln hB hI)⟩
      rw [show nI r * 2 + 1 = nI (2 * r + 1) from by rw [show 2 * r + 1 = r * 2 + 1 by omega, ← nI_add, ← pk_mul]; rfl, nI_clamp (by omega), na_at, el, nI_add]
      exact nI_le (by omega) (by omega)
    | succ d ih =>
      intro N i T en ln hN hi hB hI
      obtain ⟨N, rfl⟩ : ∃ M, N = M + 1 := ⟨N - 1, by omega⟩
      have hB0 := hB
      obtain ⟨b1, b2, b3, b4, b5⟩ := hB
      have el := b5 (2 * r + 1) (by omega)
      have eT := b2 (16 * r + 8 + i) (by omega)
      have t8 := hT8 (16 * r + 8 + i)
      have es : bp_r (bp_D TY R) TY len r ++ bp_i (bp_D TY R) TY (16 * r + 8) (i + 1) = (bp_r (bp_D TY R) TY len r ++ bp_i (bp_D TY R) TY (16 * r + 8) i) ++ (if bp_D TY R (TY (16 * r + 8 + i)) then [16 * r + 8 + i] else []) := by rw [List.append_assoc]; rfl
      have hz := bp_Dz TY R (TY (16 * r + 8 + i))
      have hd := hdf _ t8
      have qd := zb_q (n := TY (16 * r + 8 + i)) (by omega) x_defined
      refine ⟨pk_in (r * 2 + 1) 30 (by omega) (by rw [← nI_add, ← pk_mul]; rfl), br_f ?_ ⟨vp_in_nI (by omega) (by omega), ?_⟩⟩
      · rw [show nI r * 2 + 1 = nI (2 * r + 1) from by rw [show 2 * r + 1 = r * 2 + 1 by omega, ← nI_add, ← pk_mul]; rfl, nI_clamp (by omega), na_at, el, nI_add]
        exact nI_ge (by omega) (by omega)
      rw [nI_clamp (by omega), na_at, eT]
      by_cases hD : bp_D TY R (TY (16 * r + 8 + i)) = true
      · rw [hD, if_pos rfl] at es
        have hpre := bp_pre (bp_D TY R) TY len hr (show i + 1 ≤ len (2 * r + 1) by omega)
        rw [es, List.length_append] at hpre
        have hk7 : (bp_r (bp_D TY R) TY len r ++ bp_i (bp_D TY R) TY (16 * r + 8) i).length < 8 := by
          have : [16 * r + 8 + i].length = 1 := rfl
          omega
        revert hI es hk7
        generalize hpl : bp_r (bp_D TY R) TY len r ++ bp_i (bp_D TY R) TY (16 * r + 8) i = pl
        intro hI es hk7
        have hbt := hd.mpr (hz.mp hD)
        refine br_f (fun z => by rw [qd.mp z] at hbt; exact absurd hbt (by decide)) ?_
        refine nm_r (e' := nI ((7 + pl.length) * 2)) (by rw [← pk_mul, ← nI_add]; rfl) ?_
        rw [show nI r * 16 = nI (16 * r) from by rw [show 16 * r = r * 16 by omega, ← pk_mul]; rfl]
        have f1 : tx_t T (16 * r) (len (2 * r)) = tx_t TY (16 * r) (len (2 * r)) := tx_congr fun j hj => b2 _ (by omega)
        have zl : tx_z ar TY (16 * r) = len (2 * r) := tx_z_of u3 (by omega)
        refine zx_placeText (n := len (2 * r)) hA hq b1 (by omega) (by omega) (by omega) u1 (by rw [b4 _ (by omega), u7 _ (by omega) (by omega), zl]) (by rw [f1]; exact u3) ?_
        intro T1 en1 p1 p2 p3 p4 p5
        obtain ⟨z1, z2, z3, z4, z5⟩ := zr_sub (T := T1) (show 16 * r + 8 + len (2 * r + 1) ≤ 112 by omega) u4 (fun k hk => by rw [p2 k (by omega), b2 k hk]) (show 16 * r + 8 ≤ 16 * r + 8 + i by omega) (by omega)
        rw [show nI ((7 + pl.length) * 2) + 1 = nI ((7 + pl.length) * 2 + 1) from nI_1 _]
        refine zx_placeText (n := tx_z ar TY (16 * r + 8 + i)) hA hq p1 (by omega) (by omega) (by omega) (by omega) (by rw [p4 _ (by omega), b4 _ (by omega), u8 _ (by omega) (by omega)]) (by rw [z4]; exact z1) ?_
        intro T2 en2 q1 q2 q3 q4 q5
        refine nm_r (e' := nI (pl ++ [16 * r + 8 + i]).length) (by rw [List.length_append]; exact nI_1 _) (nm_r (e' := nI (16 * r + 8 + (i + 1))) (nI_1 _) ?_)
        have K := ih N (i + 1) T2 en2 (na_u (na_u ln ((7 + pl.length) * 2) (len (2 * r))) ((7 + pl.length) * 2 + 1) (tx_z ar TY (16 * r + 8 + i))) (by omega) (by omega)
        rw [es] at K
        refine K ⟨q1, fun k hk => by rw [q2 k (by omega), p2 k (by omega), b2 k hk], fun k hk => by rw [q2 k (by omega), p2 k (by omega), b3 k hk], fun k hk => by rw [q4 k (by omega), p4 k (by omega), b4 k hk], fun j hj => by rw [na_un (by omega), na_un (by omega), b5 j hj]⟩ ?_
        intro p hp2
        rw [List.length_append] at hp2
        have hp3 : p < pl.length + 1 := hp2
        by_cases ep : p = pl.length
        · subst ep
          rw [bp_app2, show (16 * r + 8 + i) / 16 = r by omega, show r * 16 = 16 * r by omega, na_un (by omega), na_us, na_us]
          refine ⟨?_, rfl, rfl⟩
          have g1 : tx_t T2 ((7 + pl.length) * 16) (len (2 * r)) = tx_t TY (16 * r) (len (2 * r)) := by
            have h1 : tx_t T2 ((7 + pl.length) * 16) (len (2 * r)) = tx_t T1 ((7 + pl.length) * 16) (len (2 * r)) := tx_congr fun j hj => q2 _ (by omega)
            rw [h1, show (7 + pl.length) * 16 = (7 + pl.length) * 2 * 8 by omega, p3, f1]
          have g2 : tx_t T2 ((7 + pl.length) * 16 + 8) (tx_z ar TY (16 * r + 8 + i)) = tx_t TY (16 * r + 8 + i) (tx_z ar TY (16 * r + 8 + i)) := by
            rw [show (7 + pl.length) * 16 + 8 = ((7 + pl.length) * 2 + 1) * 8 by omega, q3, z4]
          refine ⟨by rw [tx_len]; exact g1, by rw [tx_len]; exact g2, by rw [tx_len]; exact u1, by rw [tx_len]; omega, u3, z1, fun k hk1 hk2 => ?_, fun k hk1 hk2 => ?_⟩
          · rw [tx_len] at hk2
            rw [q4 k (by omega), p5 k (by omega) (by omega)]
            have e12 : tx_t T1 ((7 + pl.length) * 16) (len (2 * r)) = tx_t T2 ((7 + pl.length) * 16) (len (2 * r)) := tx_congr fun j hj => (q2 _ (by omega)).symm
            have := (tx_zeq (a := ar) (x := (7 + pl.length) * 16) (y := (7 + pl.length) * 16) (j := k - (7 + pl.length) * 16) (by rw [e12, g1]; exact u3) (by omega) e12 (by omega)).2
            rw [show (7 + pl.length) * 16 + (k - (7 + pl.length) * 16) = k by omega] at this
            rw [this]
          · rw [tx_len] at hk2
            exact q5 k (by omega) (by omega)
        · have hp4 : p < pl.length := by omega
          obtain ⟨i1, i2, i3⟩ := hI p hp4
          rw [bp_app1 hp4, na_un (by omega), na_un (by omega), na_un (by omega), na_un (by omega)]
          exact ⟨ox_Sk i1 (fun k hk1 hk2 => by rw [q2 k (by omega), p2 k (by omega)]) (fun k hk1 hk2 => by rw [q4 k (by omega), p4 k (by omega)]), i2, i3⟩
      · have hDf : bp_D TY R (TY (16 * r + 8 + i)) = false := by cases h : bp_D TY R (TY (16 * r + 8 + i)); rfl; exact absurd h hD
        rw [hDf] at es
        have es' : bp_r (bp_D TY R) TY len r ++ bp_i (bp_D TY R) TY (16 * r + 8) (i + 1) = bp_r (bp_D TY R) TY len r ++ bp_i (bp_D TY R) TY (16 * r + 8) i := by rw [es]; exact List.append_nil _
        have hbf : bt x_defined (TY (16 * r + 8 + i)) = false := by
          cases h : bt x_defined (TY (16 * r + 8 + i)) with
          | false => rfl
          | true => exact absurd (hz.mpr (hd.mp h)) hD
        refine br_t (qd.mpr hbf) ?_
        refine nm_r (e' := nI (16 * r + 8 + (i + 1))) (nI_1 _) ?_
        have K := ih N (i + 1) T en ln (by omega) (by omega) hB0
        rw [es'] at K
        exact K hI
  intro T en ln hB hI
  have K := key (len (2 * r + 1)) (len (2 * r + 1) + 1) 0 T en ln (by omega) (by omega) hB
  have e0 : bp_r (bp_D TY R) TY len r ++ bp_i (bp_D TY R) TY (16 * r + 8) 0 = bp_r (bp_D TY R) TY len r := List.append_nil _
  rw [e0] at K
  have ei : nI r * 16 + 8 = nI (16 * r + 8) := by
    rw [show 16 * r + 8 = r * 16 + 8 by omega, ← nI_add, ← pk_mul]
    rfl
  refine nm_r (e' := nI (16 * r + 8)) ei ⟨_, K hI⟩
end
end
section
section
variable {x_pairSlot x_subjectBase x_filteredLeft x_filteredRight x_scratch x_allOrders x_equalMark x_termCells x_phase x_ruleCount x_pairCount x_lineCount x_defined x_openSide x_openMissing x_subjectLength x_subjectMissing : Int32} {x_tok x_end x_cut x_length x_precedences x_above x_greater x_relation x_arity x_shape x_kept x_bound x_links x_lines : Nat → Int32}
def lk_I (C : Nat → Nat → Prop) (p q : Nat) (lk : Nat → Int32) : Prop :=
  ∀ r, r < 8 → ∀ s, s < 32 → ((bt (lk r) s = true ↔ C r s ∧ (r < p ∨ (r = p ∧ s < q))) ∧ (bt (lk (8 + r)) s = true ↔ C s r ∧ (s < p ∨ (s = p ∧ r < q))))
theorem zx_linkPairs {post : SX → Prop} {ar TX en TY0 : Nat → Nat} {LP RP : Nat → List Nat} {R P : Nat} (hA : fd_A ar) (hT : ∀ k, TX k < 8) (hD : cx_D x_defined (zd_D TY0 R)) (hP : P ≤ 8) (hS : ∀ p, p < P → ox_S ar TX en (7 + p) (LP p) (RP p))
    (hp : ∀ lk, ck_X (ed_C ar TY0 LP RP R P) lk → post (x_pairSlot, x_subjectBase, x_filteredLeft, x_filteredRight, x_scratch, x_allOrders, x_equalMark, x_termCells, x_phase, x_ruleCount, nI P, x_lineCount, x_defined, x_openSide, x_openMissing, x_subjectLength, x_subjectMissing, na_F TX, na_F en, x_cut, x_length, x_precedences, x_above, x_greater, x_relation, x_arity, x_shape, x_kept, x_bound, lk, x_lines)) :
    wpX_linkPairs post (x_pairSlot, x_subjectBase, x_filteredLeft, x_filteredRight, x_scratch, x_allOrders, x_equalMark, x_termCells, x_phase, x_ruleCount, nI P, x_lineCount, x_defined, x_openSide, x_openMissing, x_subjectLength, x_subjectMissing, na_F TX, na_F en, x_cut, x_length, x_precedences, x_above, x_greater, x_relation, x_arity, x_shape, x_kept, x_bound, x_links, x_lines) := by
  have k23 : ∀ d N p lk, d < N → p + d = P → lk_I (ed_C ar TY0 LP RP R P) p 0 lk → wX_linkPairs_23 post x_pairSlot x_subjectBase x_filteredLeft x_filteredRight x_scratch x_allOrders x_equalMark x_termCells x_phase x_ruleCount (nI P) x_lineCount x_defined x_openSide x_openMissing x_subjectLength x_subjectMissing N (nI p) (na_F TX) (na_F en) x_cut x_length x_precedences x_above x_greater x_relation x_arity x_shape x_kept x_bound lk x_lines := by
    intro d
    induction d with
    | zero =>
      intro N p lk hN hpd h
      obtain ⟨N, rfl⟩ : ∃ M, N = M + 1 := ⟨N - 1, by omega⟩
      have e : p = P := by omega
      subst e
      refine br_t (nI_le (by omega) (by omega)) (hp lk ⟨fun a b h => by have := h.1; have := h.2.1; omega, fun r hr s hs => ?_, fun r hr s hs => ?_⟩)
      · rw [(h r hr s hs).1]
        exact ⟨fun z => z.1, fun z => ⟨z, Or.inl z.1⟩⟩
      · rw [(h r hr s hs).2]
        exact ⟨fun z => z.1, fun z => ⟨z, Or.inl z.1⟩⟩
    | succ d ih =>
      intro N p lk hN hpd h
      obtain ⟨N, rfl⟩ : ∃ M, N = M + 1 := ⟨N - 1, by omega⟩
      refine br_f (nI_ge (by omega) (by omega)) ⟨P + 1, ?_⟩
      have k33 : ∀ d N' q lk, d < N' → q + d = P → lk_I (ed_C ar TY0 LP RP R P) p q lk → wX_linkPairs_33 post (wX_linkPairs_23 post x_pairSlot x_subjectBase x_filteredLeft x_filteredRight x_scratch x_allOrders x_equalMark x_termCells x_phase x_ruleCount (nI P) x_lineCount x_defined x_openSide x_openMissing x_subjectLength x_subjectMissing N) (nI p) x_pairSlot x_subjectBase x_filteredLeft x_filteredRight x_scratch x_allOrders x_equalMark x_termCells x_phase x_ruleCount (nI P) x_lineCount x_defined x_openSide x_openMissing x_subjectLength x_subjectMissing N' (nI q) (na_F TX) (na_F en) x_cut x_length x_precedences x_above x_greater x_relation x_arity x_shape x_kept x_bound lk x_lines := by
        intro d
        induction d with
        | zero =>
          intro N' q lk hN' hqd h
          obtain ⟨N', rfl⟩ : ∃ M, N' = M + 1 := ⟨N' - 1, by omega⟩
          refine br_t (nI_le (by omega) (by omega)) ?_
          refine nm_r (e' := nI (p + 1)) (nI_1 p) (ih N (p + 1) lk (by omega) (by omega) (fun r hr s hs => ⟨?_, ?_⟩))
          · rw [(h r hr s hs).1]
            constructor
            · rintro ⟨z1, z2⟩; exact ⟨z1, by omega⟩
            · rintro ⟨z1, z2⟩; exact ⟨z1, by have := z1.2.1; omega⟩
          · rw [(h r hr s hs).2]
            constructor
            · rintro ⟨z1, z2⟩; exact ⟨z1, by omega⟩
            · rintro ⟨z1, z2⟩; exact ⟨z1, by have := z1.2.1; omega⟩
        | succ d ih2 =>
          intro N' q lk hN' hqd h
          obtain ⟨N', rfl⟩ : ∃ M, N' = M + 1 := ⟨N' - 1, by omega⟩
          refine br_f (nI_ge (by omega) (by omega)) ?_
          refine zx_connW (P := P) (R := R) hA hT hD hP (show p < P by omega) (show q < P by omega) (hS p (by omega)) (hS q (by omega)) (fun hc => br_f (by decide) ?_) (fun hc => br_t (by decide) ?_)
          · refine ⟨vp_in_nI (by omega) (by omega), vp_in_nI (by omega) (by omega), ?_⟩
            rw [nI_clamp (n := p) (by omega)]
            refine nm_e ?_
            rw [show (8 : Int32) + nI q = nI (8 + q) from nI_add 8 q]
            refine ⟨vp_in_nI (by omega) (by omega), vp_in_nI (by omega) (by omega), ?_⟩
            rw [nI_clamp (n := 8 + q) (by omega)]
            refine nm_e (nm_r (e' := nI (q + 1)) (nI_1 q) (ih2 N' (q + 1) _ (by omega) (by omega) (fun r hr s hs => ⟨?_, ?_⟩)))
            · have e1 : bt ((1 : Int32) <<< (nI q &&& 31)) s = decide (s = q) := zb_one (by omega) hs
              rw [pk_un (by omega)]
              by_cases er : r = p
              · subst er
                rw [pk_us, b_or, Bool.or_eq_true, e1, (h r hr s hs).1]
                constructor
                · rintro (⟨z1, z2⟩ | z)
                  · exact ⟨z1, by omega⟩
                  · have := of_decide_eq_true z
                    rw [this]
                    exact ⟨hc, by omega⟩
                · rintro ⟨z1, z2⟩
                  by_cases e : s = q
                  · exact Or.inr (decide_eq_true e)
                  · exact Or.inl ⟨z1, by omega⟩
              · rw [pk_un er, (h r hr s hs).1]
                constructor
                · rintro ⟨z1, z2⟩; exact ⟨z1, by omega⟩
                · rintro ⟨z1, z2⟩; exact ⟨z1, by omega⟩
            · have e1 : bt ((1 : Int32) <<< (nI p &&& 31)) s = decide (s = p) := zb_one (by omega) hs
              by_cases er : r = q
              · subst er
                rw [pk_us, pk_un (by omega), b_or, Bool.or_eq_true, e1, (h r hr s hs).2]
                constructor
                · rintro (⟨z1, z2⟩ | z)
                  · exact ⟨z1, by omega⟩
                  · have := of_decide_eq_true z
                    rw [this]
                    exact ⟨hc, by omega⟩
                · rintro ⟨z1, z2⟩
                  by_cases e : s = p
                  · exact Or.inr (decide_eq_true e)
                  · exact Or.inl ⟨z1, by omega⟩
              · rw [pk_un (by omega), pk_un (by omega), (h r hr s hs).2]
                constructor
                · rintro ⟨z1, z2⟩; exact ⟨z1, by omega⟩
                · rintro ⟨z1, z2⟩; exact ⟨z1, by omega⟩
          · refine nm_r (e' := nI (q + 1)) (nI_1 q) (ih2 N' (q + 1) lk (by omega) (by omega) (fun r hr s hs => ⟨?_, ?_⟩))
            · rw [(h r hr s hs).1]
              constructor
              · rintro ⟨z1, z2⟩; exact ⟨z1, by omega⟩
              · rintro ⟨z1, z2⟩
                refine ⟨z1, ?_⟩
                by_cases e : r = p ∧ s = q
                · rw [e.1, e.2] at z1; exact absurd z1 hc
                · omega
            · rw [(h r hr s hs).2]
              constructor
              · rintro ⟨z1, z2⟩; exact ⟨z1, by omega⟩
              · rintro ⟨z1, z2⟩
                refine ⟨z1, ?_⟩
                by_cases e : s = p ∧ r = q
                · rw [e.1, e.2] at z1; exact absurd z1 hc
                · omega
      exact k33 P (P + 1) 0 lk (by omega) (by omega) h
  have k2 : ∀ d N i lk, d < N → i + d = 16 → (∀ j, j < i → lk j = 0) → wX_linkPairs_2 post x_pairSlot x_subjectBase x_filteredLeft x_filteredRight x_scratch x_allOrders x_equalMark x_termCells x_phase x_ruleCount (nI P) x_lineCount x_defined x_openSide x_openMissing x_subjectLength x_subjectMissing N (nI i) (na_F TX) (na_F en) x_cut x_length x_precedences x_above x_greater x_relation x_arity x_shape x_kept x_bound lk x_lines := by
    intro d
    induction d with
    | zero =>
      intro N i lk hN hi h
      obtain ⟨N, rfl⟩ : ∃ M, N = M + 1 := ⟨N - 1, by omega⟩
      refine br_t (nI_le (a := 16) (by omega) (by omega)) ⟨P + 1, k23 P (P + 1) 0 lk (by omega) (by omega) (fun r hr s hs => ⟨?_, ?_⟩)⟩
      · rw [h r (by omega), b_0]
        exact ⟨fun z => absurd z (by decide), fun z => by omega⟩
      · rw [h (8 + r) (by omega), b_0]
        exact ⟨fun z => absurd z (by decide), fun z => by omega⟩
    | succ d ih =>
      intro N i lk hN hi h
      obtain ⟨N, rfl⟩ : ∃ M, N = M + 1 := ⟨N - 1, by omega⟩
      refine br_f (nI_ge (b := 16) (by omega) (by omega)) ⟨vp_in_nI (by omega) (by omega), ?_⟩
      rw [nI_clamp (by omega)]
      refine nm_e (nm_r (e' := nI (i + 1)) (nI_1 i) (ih N (i + 1) _ (by omega) (by omega) (fun j hj => ?_)))
      by_cases e : j = i
      · rw [e, pk_us]
      · rw [pk_un e]; exact h j (by omega)
  exact ⟨17, k2 16 17 0 x_links (by omega) (by omega) (fun j hj => by omega)⟩
/-- the component builds -/
theorem zx_build {post : Int32 → SX → Prop} {ar TY T0 en0 ln0 len : Nat → Nat} {R : Nat} (hA : fd_A ar) (hq : ∀ t, t < 8 → x_arity t = nI (ar t)) (hR : R ≤ 6) (hT8 : ∀ k, TY k < 8) (hB0 : bd_B TY T0 en0 len T0 en0 ln0) (hrule : ∀ r, r < R → zr_rule ar TY en0 len r) (h0 : len (2 * R) = 0)
    (hbig : ∀ df, 8 < (bp_r (bp_D TY R) TY len R).length → post (-2) (x_pairSlot, x_subjectBase, x_filteredLeft, x_filteredRight, x_scratch, x_allOrders, x_equalMark, x_termCells, nI 0, nI R, nI 0, x_lineCount, df, x_openSide, x_openMissing, x_subjectLength, x_subjectMissing, na_F T0, na_F en0, x_cut, na_F ln0, x_precedences, x_above, x_greater, x_relation, x_arity, x_shape, x_kept, x_bound, x_links, x_lines))
    (hok : ∀ df T en ln lk, (bp_r (bp_D TY R) TY len R).length ≤ 8 → bd_B TY T0 en0 len T en ln → bd_I ar TY len T en ln (bp_r (bp_D TY R) TY len R) →
      ck_X (ed_C ar TY (fun p => tx_t TY ((bp_r (bp_D TY R) TY len R).getD p 0 / 16 * 16) (len (2 * ((bp_r (bp_D TY R) TY len R).getD p 0 / 16)))) (fun p => tx_t TY ((bp_r (bp_D TY R) TY len R).getD p 0) (tx_z ar TY ((bp_r (bp_D TY R) TY len R).getD p 0))) R (bp_r (bp_D TY R) TY len R).length) lk →
      post (nI (bp_r (bp_D TY R) TY len R).length) (x_pairSlot, x_subjectBase, x_filteredLeft, x_filteredRight, x_scratch, x_allOrders, x_equalMark, x_termCells, 1, nI R, nI (bp_r (bp_D TY R) TY len R).length, 0, df, x_openSide, x_openMissing, x_subjectLength, x_subjectMissing, na_F T, na_F en, x_cut, na_F ln, x_precedences, x_above, x_greater, x_relation, x_arity, x_shape, x_kept, x_bound, lk, x_lines)) :
    wpX_build post (x_pairSlot, x_subjectBase, x_filteredLeft, x_filteredRight, x_scratch, x_allOrders, x_equalMark, x_termCells, nI 0, nI R, nI 0, x_lineCount, x_defined, x_openSide, x_openMissing, x_subjectLength, x_subjectMissing, na_F T0, na_F en0, x_cut, na_F ln0, x_precedences, x_above, x_greater, x_relation, x_arity, x_shape, x_kept, x_bound, x_links, x_lines) := by
  have hl8 : ∀ r, r < R → len (2 * r + 1) ≤ 8 := fun r hr => (hrule r hr).2.1
  have hlen := bp_rlen (bp_D TY R) TY len R hl8
  have eR : ln0 (2 * R) = 0 := by rw [hB0.2.2.2.2 _ (by omega), h0]
  refine br_f (by decide) ⟨pk_in (R * 2) 30 (by omega) (pk_mul R 2), ?_⟩
  rw [show nI R * 2 = nI (2 * R) from by rw [show 2 * R = R * 2 by omega, ← pk_mul]; rfl, nI_clamp (by omega), na_at, eR]
  refine br_t (by decide) ?_
  refine zx_countPairs hR hT8 hB0.2.1 hB0.2.2.2.2 hl8 ?_
  intro df hdf
  by_cases h8 : (bp_r (bp_D TY R) TY len R).length ≤ 8
  · refine br_t (nI_le (b := 8) h8 (by omega)) ⟨R + 1, ?_⟩
    have key : ∀ d N r T en ln, d < N → r + d = R → bd_B TY T0 en0 len T en ln → bd_I ar TY len T en ln (bp_r (bp_D TY R) TY len r) → wX_build_38 post N (nI r) x_pairSlot x_subjectBase x_filteredLeft x_filteredRight x_scratch x_allOrders x_equalMark x_termCells (nI 0) (nI R) (nI (bp_r (bp_D TY R) TY len r).length) x_lineCount df x_openSide x_openMissing x_subjectLength x_subjectMissing (na_F T) (na_F en) x_cut (na_F ln) x_precedences x_above x_greater x_relation x_arity x_shape x_kept x_bound x_links x_lines := by
      intro d
      induction d with
      | zero =>
        intro N r T en ln hN hr hB hI
        obtain ⟨N, rfl⟩ : ∃ M, N = M + 1 := ⟨N - 1, by omega⟩
        have e : r = R := by omega
        subst e
        refine br_t (nI_le (by omega) (by omega)) ?_
        refine zx_linkPairs (LP := fun p => tx_t TY ((bp_r (bp_D TY r) TY len r).getD p 0 / 16 * 16) (len (2 * ((bp_r (bp_D TY r) TY len r).getD p 0 / 16)))) (RP := fun p => tx_t TY ((bp_r (bp_D TY r) TY len r).getD p 0) (tx_z ar TY ((bp_r (bp_D TY r) TY len r).getD p 0))) hA hB.1 hdf h8 (fun p hp => (hI p hp).1) ?_
        intro lk hlk
        exact hok df T en ln lk h8 hB hI hlk
      | succ d ih =>
        intro N r T en ln hN hr hB hI
        obtain ⟨N, rfl⟩ : ∃ M, N = M + 1 := ⟨N - 1, by omega⟩
        refine br_f (nI_ge (by omega) (by omega)) ?_
        refine zx_addPairs hA hq hR (show r < R by omega) hT8 hrule hdf h8 ?_ T en ln hB hI
        intro T' en' ln' hB' hI'
        exact nm_r (e' := nI (r + 1)) (nI_1 r) (ih N (r + 1) T' en' ln' (by omega) (by omega) hB' hI')
    exact key R (R + 1) 0 T0 en0 ln0 (by omega) (by omega) hB0 (fun p hp => absurd hp (Nat.not_lt_zero p))
  · exact br_f (nI_ge (a := 8) (by omega) (by omega)) (hbig df (by omega))
end
end
section
/-! the relation -/
def zr_1 (ar : Nat → Nat) (cap : Nat) (pc : Nat → Nat) (ab : Nat → Int32) : Prop := fd_A ar ∧ 8 ≤ cap ∧ cap ≤ 32 ∧ pl_P pc ∧ pl_A ab
def zr_2 (TX0 en0 TX en ct sh kp : Nat → Nat) (gr : Nat → Int32) : Prop := wk_X TX0 en0 TX en ct gr ∧ ∀ t, t < 8 → 4 ≤ t → sh t = 4 ∧ kp t = 0
def zr_3 (ar TY0 TY A dg hd gt ft pt : Nat → Nat) : Prop := wk_Y ar TY0 TY A dg hd gt ∧ (∀ k, ft k < 2) ∧ ∀ k, pt k < 2
def zr_4 (G S TX0 TY0 ln len : Nat → Nat) : Prop := (∀ k, k < 112 → TX0 k = G k) ∧ (∀ i, i < 32 → TX0 (240 + i) = S i) ∧ (∀ k, k < 112 → TY0 k = G k) ∧ (∀ i, i < 32 → TY0 (112 + i) = S i) ∧ (∀ k, G k < 8) ∧ (∀ i, i < 14 → ln i = len i)
def zr_5 (ar G en0 len : Nat → Nat) (R : Nat) : Prop := R ≤ 6 ∧ (∀ r, r < R → zr_rule ar G en0 len r) ∧ ∀ i, 2 * R + 2 ≤ i → i < 14 → len i = 0
def zr_6 (ar G en0 len : Nat → Nat) (R os om : Nat) : Prop := (R = 6 → len (2 * R) = 0) ∧ 0 < om ∧
  ((os = 0 ∧ len (2 * R + 1) = 0 ∧ len (2 * R) + om ≤ 8 ∧ tx_M ar (zr_LL G len R) 1 om ∧ (0 < len (2 * R) → G (16 * R) < 4)) ∨
   (os = 1 ∧ len (2 * R) ≤ 8 ∧ tx_T ar (zr_LL G len R) ∧ G (16 * R) < 4 ∧ (∀ k, 16 * R ≤ k → k < 16 * R + len (2 * R) → en0 k = k + tx_z ar G k) ∧
     len (2 * R + 1) + om ≤ 8 ∧ tx_M ar (zr_RR G len R) 1 om ∧ ∀ v, v ∈ zr_RR G len R → 4 ≤ v → v ∈ zr_LL G len R))
def zr_7 (ar S en0 : Nat → Nat) (cap sl sm : Nat) : Prop := sl + sm ≤ cap ∧ tx_M ar (tx_t S 0 sl) 1 sm ∧ (sm = 0 → ∀ j, j < sl → en0 (240 + j) = 240 + (j + tx_z ar S j)) ∧ ∀ i, S i < 8
def zr_8 (ar G TX0 en0 ln len pa : Nat → Nat) (R P ph L os : Nat) (lk : Nat → Int32) : Prop :=
  ((ph = 0 ∧ P = 0 ∧ L = 0) ∨ (ph = 1 ∧ len (2 * R) = 0 ∧ os = 0)) ∧ P ≤ 8 ∧
  (∀ p, p < P → ∃ r i, r < R ∧ i < len (2 * r + 1) ∧ pa p = 16 * r + 8 + i) ∧
  (∀ p, p < P → ox_S ar TX0 en0 (7 + p) (zr_LP G len pa p) (zr_RP ar G pa p) ∧ ln ((7 + p) * 2) = (zr_LP G len pa p).length ∧ ln ((7 + p) * 2 + 1) = (zr_RP ar G pa p).length) ∧
  (ph = 1 → ck_X (ed_C ar G (zr_LP G len pa) (zr_RP ar G pa) R P) lk)
/-- what the lines leave -/
def rm_v (P : Nat) (rec : Nat → Int32) : Nat → Int32
  | 0 => (nI 1 <<< (nI P &&& 31)) - nI 1
  | l + 1 => rm_v P rec l &&& (rec (l * 3) ^^^ (-nI 1))
def zr_9 (ar : Nat → Nat) (P L : Nat) (rec : Nat → Int32) : Prop := ∀ l, l < L → ck_ln ar P rec l ∧ ∀ i, i < 32 → bt (rec (l * 3)) i = true → bt (rm_v P rec l) i = true
def i_Rel (k : Nat) (u : SX) (v : SY) : Prop := ∃ (c1 c2 c3 c4 c5 c6 c7 df : Int32) (cap ph R P L os om sl sm : Nat) (ar TX en ct ln pc sh kp TY A len pa dg lvl hd gt ft pt G S TX0 en0 TY0 : Nat → Nat) (ab gr rl bd lk rec bi : Nat → Int32), ((zr_1 ar cap pc ab) ∧ (zr_2 TX0 en0 TX en ct sh kp gr) ∧ (zr_3 ar TY0 TY A dg hd gt ft pt) ∧ (zr_4 G S TX0 TY0 ln len) ∧ (zr_5 ar G en0 len R) ∧ (zr_6 ar G en0 len R os om) ∧ (zr_7 ar S en0 cap sl sm) ∧ (zr_8 ar G TX0 en0 ln len pa R P ph L os lk) ∧ (zr_9 ar P L rec)) ∧ u = (c1, c2, c3, c4, c5, c6, c7, nI cap, nI ph, nI R, nI P, nI L, df, nI os, nI om, nI sl, nI sm, na_F TX, na_F en, na_F ct, na_F ln, na_F pc, ab, gr, rl, na_F ar, na_F sh, na_F kp, bd, lk, rec) ∧ v = (nI cap, nI ph, nI R, nI P, nI L, nI sl, na_F TY, na_F A, na_F len, na_F pa, rec, na_F dg, na_F lvl, bi, na_F hd, na_F gt, na_F ft, na_F pt) ∧ k = k
theorem zr_in {k : Nat} {c1 c2 c3 c4 c5 c6 c7 df : Int32} {cap ph R P L os om sl sm : Nat} {ar TX en ct ln pc sh kp TY A len pa dg lvl hd gt ft pt G S TX0 en0 TY0 : Nat → Nat} {ab gr rl bd lk rec bi : Nat → Int32} (h1 : zr_1 ar cap pc ab) (h2 : zr_2 TX0 en0 TX en ct sh kp gr) (h3 : zr_3 ar TY0 TY A dg hd gt ft pt) (h4 : zr_4 G S TX0 TY0 ln len) (h5 : zr_5 ar G en0 len R) (h6 : zr_6 ar G en0 len R os om) (h7 : zr_7 ar S en0 cap sl sm) (h8 : zr_8 ar G TX0 en0 ln len pa R P ph L os lk) (h9 : zr_9 ar P L rec) : i_Rel k (c1, c2, c3, c4, c5, c6, c7, nI cap, nI ph, nI R, nI P, nI L, df, nI os, nI om, nI sl, nI sm, na_F TX, na_F en, na_F ct, na_F ln, na_F pc, ab, gr, rl, na_F ar, na_F sh, na_F kp, bd, lk, rec) (nI cap, nI ph, nI R, nI P, nI L, nI sl, na_F TY, na_F A, na_F len, na_F pa, rec, na_F dg, na_F lvl, bi, na_F hd, na_F gt, na_F ft, na_F pt) := ⟨c1, c2, c3, c4, c5, c6, c7, df, cap, ph, R, P, L, os, om, sl, sm, ar, TX, en, ct, ln, pc, sh, kp, TY, A, len, pa, dg, lvl, hd, gt, ft, pt, G, S, TX0, en0, TY0, ab, gr, rl, bd, lk, rec, bi, ⟨h1, h2, h3, h4, h5, h6, h7, h8, h9⟩, rfl, rfl, rfl⟩
theorem zr_el {Q : SX → SY → Prop} {k : Nat} {u : SX} {v : SY} (h : ∀ (c1 c2 c3 c4 c5 c6 c7 df : Int32) (cap ph R P L os om sl sm : Nat) (ar TX en ct ln pc sh kp TY A len pa dg lvl hd gt ft pt G S TX0 en0 TY0 : Nat → Nat) (ab gr rl bd lk rec bi : Nat → Int32), zr_1 ar cap pc ab → zr_2 TX0 en0 TX en ct sh kp gr → zr_3 ar TY0 TY A dg hd gt ft pt → zr_4 G S TX0 TY0 ln len → zr_5 ar G en0 len R → zr_6 ar G en0 len R os om → zr_7 ar S en0 cap sl sm → zr_8 ar G TX0 en0 ln len pa R P ph L os lk → zr_9 ar P L rec → Q (c1, c2, c3, c4, c5, c6, c7, nI cap, nI ph, nI R, nI P, nI L, df, nI os, nI om, nI sl, nI sm, na_F TX, na_F en, na_F ct, na_F ln, na_F pc, ab, gr, rl, na_F ar, na_F sh, na_F kp, bd, lk, rec) (nI cap, nI ph, nI R, nI P, nI L, nI sl, na_F TY, na_F A, na_F len, na_F pa, rec, na_F dg, na_F lvl, bi, na_F hd, na_F gt, na_F ft, na_F pt)) (I : i_Rel k u v) : Q u v :=
  I.elim fun c1 I => I.elim fun c2 I => I.elim fun c3 I => I.elim fun c4 I => I.elim fun c5 I => I.elim fun c6 I => I.elim fun c7 I => I.elim fun df I => I.elim fun cap I => I.elim fun ph I => I.elim fun R I => I.elim fun P I => I.elim fun L I => I.elim fun os I => I.elim fun om I => I.elim fun sl I => I.elim fun sm I => I.elim fun ar I => I.elim fun TX I => I.elim fun en I => I.elim fun ct I => I.elim fun ln I => I.elim fun pc I => I.elim fun sh I => I.elim fun kp I => I.elim fun TY I => I.elim fun A I => I.elim fun len I => I.elim fun pa I => I.elim fun dg I => I.elim fun lvl I => I.elim fun hd I => I.elim fun gt I => I.elim fun ft I => I.elim fun pt I => I.elim fun G I => I.elim fun S I => I.elim fun TX0 I => I.elim fun en0 I => I.elim fun TY0 I => I.elim fun ab I => I.elim fun gr I => I.elim fun rl I => I.elim fun bd I => I.elim fun lk I => I.elim fun rec I => I.elim fun bi I =>  by
    obtain ⟨⟨h1, h2, h3, h4, h5, h6, h7, h8, h9⟩, eu, ev, _⟩ := I
    rw [eu, ev]
    exact h c1 c2 c3 c4 c5 c6 c7 df cap ph R P L os om sl sm ar TX en ct ln pc sh kp TY A len pa dg lvl hd gt ft pt G S TX0 en0 TY0 ab gr rl bd lk rec bi h1 h2 h3 h4 h5 h6 h7 h8 h9
theorem i_up {k : Nat} {u : SX} {v : SY} (h : i_Rel k u v) : i_Rel (k + 5) u v :=
  zr_el (Q := fun u v => i_Rel (k + 5) u v) (fun c1 c2 c3 c4 c5 c6 c7 df cap ph R P L os om sl sm ar TX en ct ln pc sh kp TY A len pa dg lvl hd gt ft pt G S TX0 en0 TY0 ab gr rl bd lk rec bi h1 h2 h3 h4 h5 h6 h7 h8 h9 => zr_in h1 h2 h3 h4 h5 h6 h7 h8 h9) h
/-! what remains: counting -/
theorem rm_bits {P : Nat} {rec : Nat → Int32} (hP : P ≤ 8) : ∀ l i, i < 32 → bt (rm_v P rec l) i = true → i < P := by
  intro l
  induction l with
  | zero =>
    intro i hi h
    have := zb_full P (by omega) i hi
    rw [show rm_v P rec 0 = (nI 1 <<< (nI P &&& 31)) - nI 1 from rfl, this] at h
    exact of_decide_eq_true h
  | succ l ih =>
    intro i hi h
    rw [show rm_v P rec (l + 1) = rm_v P rec l &&& (rec (l * 3) ^^^ (-nI 1)) from rfl, b_and, Bool.and_eq_true] at h
    exact ih i hi h.1
theorem rm_cnt {ar : Nat → Nat} {P : Nat} {rec : Nat → Int32} (hP : P ≤ 8) : ∀ L, zr_9 ar P L rec → L + gr_c (bt (rm_v P rec L)) 8 ≤ P := by
  intro L
  induction L with
  | zero =>
    intro _
    have h1 : gr_c (bt (rm_v P rec 0)) 8 = gr_c (fun i => decide (i < P)) 8 := gr_cext 8 (fun i hi => zb_full P (by omega) i (by omega))
    have h2 : ∀ n, gr_c (fun i => decide (i < P)) n ≤ P := by
      intro n
      induction n with
      | zero => exact Nat.zero_le _
      | succ n ih =>
        show gr_c (fun i => decide (i < P)) n + (if decide (n < P) = true then 1 else 0) ≤ P
        by_cases h : n < P
        · rw [if_pos (decide_eq_true h)]
          have := gr_cle (fun i => decide (i < P)) n
          omega
        · rw [if_neg (by rw [decide_eq_false h]; decide)]
          omega
    have := h2 8
    omega
  | succ L ih =>
    intro h
    have h1 := ih (fun l hl => h l (by omega))
    obtain ⟨⟨⟨low, q1, q2⟩, _⟩, hsub⟩ := h L (by omega)
    have hb := q2.2.1
    have hr := hsub low (by omega) hb
    have hlt := gr_clt (f := bt (rm_v P rec (L + 1))) (g := bt (rm_v P rec L)) 8 (fun i hi hbi => by
      rw [show rm_v P rec (L + 1) = rm_v P rec L &&& (rec (L * 3) ^^^ (-nI 1)) from rfl, b_and, Bool.and_eq_true] at hbi
      exact hbi.1) low (by omega) (by
      rw [show rm_v P rec (L + 1) = rm_v P rec L &&& (rec (L * 3) ^^^ (-nI 1)) from rfl, b_and, zb_not _ (by omega), hb]
      cases bt (rm_v P rec L) low <;> rfl) hr
    omega
theorem rm_L8 {ar : Nat → Nat} {P L : Nat} {rec : Nat → Int32} (hP : P ≤ 8) (h : zr_9 ar P L rec) : L ≤ 8 := by
  have := rm_cnt hP L h
  omega
theorem rm_L7 {ar : Nat → Nat} {P L : Nat} {rec : Nat → Int32} (hP : P ≤ 8) (h : zr_9 ar P L rec) {i : Nat} (hi : i < 32) (hb : bt (rm_v P rec L) i = true) : L < 8 := by
  have h1 := rm_cnt hP L h
  have h2 := rm_bits hP L i hi hb
  have := gr_cpos (f := bt (rm_v P rec L)) (n := 8) (k := i) (by omega) hb
  omega
section
variable {x_pairSlot x_subjectBase x_filteredLeft x_filteredRight x_scratch x_allOrders x_equalMark x_termCells x_phase x_ruleCount x_pairCount x_lineCount x_defined x_openSide x_openMissing x_subjectLength x_subjectMissing : Int32} {x_tok x_end x_cut x_length x_precedences x_above x_greater x_relation x_arity x_shape x_kept x_bound x_links x_lines : Nat → Int32}
variable {y_cap y_phase y_rules y_pairs y_lines y_size : Int32} {y_m y_ar y_len y_pairAt y_rec y_digit y_level y_bind y_hide y_gt y_fit y_path : Nat → Int32}
theorem zx_remaining {post : Int32 → Prop} {P L : Nat} (hL : L ≤ 8) (hp : post (rm_v P x_lines L)) : wpX_remaining post (x_pairSlot, x_subjectBase, x_filteredLeft, x_filteredRight, x_scratch, x_allOrders, x_equalMark, x_termCells, x_phase, x_ruleCount, nI P, nI L, x_defined, x_openSide, x_openMissing, x_subjectLength, x_subjectMissing, x_tok, x_end, x_cut, x_length, x_precedences, x_above, x_greater, x_relation, x_arity, x_shape, x_kept, x_bound, x_links, x_lines) := by
  have key : ∀ d N l, d < N → l + d = L → wX_remaining_11 post x_pairSlot x_subjectBase x_filteredLeft x_filteredRight x_scratch x_allOrders x_equalMark x_termCells x_phase x_ruleCount (nI P) (nI L) x_defined x_openSide x_openMissing x_subjectLength x_subjectMissing x_tok x_end x_cut x_length x_precedences x_above x_greater x_relation x_arity x_shape x_kept x_bound x_links x_lines N (rm_v P x_lines l) (nI l) := by
    intro d
    induction d with
    | zero =>
      intro N l hN hl
      obtain ⟨N, rfl⟩ : ∃ M, N = M + 1 := ⟨N - 1, by omega⟩
      have e : l = L := by omega
      subst e
      exact br_t (nI_le (by omega) (by omega)) hp
    | succ d ih =>
      intro N l hN hl
      obtain ⟨N, rfl⟩ : ∃ M, N = M + 1 := ⟨N - 1, by omega⟩
      refine br_f (nI_ge (by omega) (by omega)) ⟨pk_in (l * 3) 24 (by omega) (pk_mul l 3), ?_⟩
      rw [show nI l * 3 = nI (l * 3) from pk_mul l 3, nI_clamp (by omega)]
      exact nm_e (nm_r (e' := nI (l + 1)) (nI_1 l) (ih N (l + 1) (by omega) (by omega)))
  exact nm_e ⟨L + 1, key L (L + 1) 0 (by omega) (by omega)⟩
theorem zy_remaining {post : Int32 → Prop} {P L : Nat} (hL : L ≤ 8) (hp : post (rm_v P y_rec L)) : wpY_remaining post (y_cap, y_phase, y_rules, nI P, nI L, y_size, y_m, y_ar, y_len, y_pairAt, y_rec, y_digit, y_level, y_bind, y_hide, y_gt, y_fit, y_path) := by
  have key : ∀ d N l, d < N → l + d = L → wY_remaining_11 post y_cap y_phase y_rules (nI P) (nI L) y_size y_m y_ar y_len y_pairAt y_rec y_digit y_level y_bind y_hide y_gt y_fit y_path N (rm_v P y_rec l) (nI l) := by
    intro d
    induction d with
    | zero =>
      intro N l hN hl
      obtain ⟨N, rfl⟩ : ∃ M, N = M + 1 := ⟨N - 1, by omega⟩
      have e : l = L := by omega
      subst e
      exact br_t (nI_le (by omega) (by omega)) hp
    | succ d ih =>
      intro N l hN hl
      obtain ⟨N, rfl⟩ : ∃ M, N = M + 1 := ⟨N - 1, by omega⟩
      have i0 : (3 : Int32) * nI l = nI (l * 3) := by
        rw [show l * 3 = 3 * l from Nat.mul_comm _ _]
        exact pk_mul 3 l
      refine br_f (nI_ge (by omega) (by omega)) ?_
      rw [i0, nI_clamp (by omega)]
      exact ⟨vp_in_nI (by omega) (by omega), nm_e (nm_r (e' := nI (l + 1)) (nI_1 l) (ih N (l + 1) (by omega) (by omega)))⟩
  exact nm_e ⟨L + 1, key L (L + 1) 0 (by omega) (by omega)⟩
end
end
section
/-! what the relation gives to the walks -/
theorem zr_ruleT {ar G en0 len TX0 : Nat → Nat} {r : Nat} (hr : r < 7) (h : zr_rule ar G en0 len r) (hT : ∀ k, k < 112 → TX0 k = G k) : ox_S ar TX0 en0 r (zr_LL G len r) (zr_RR G len r) := by
  obtain ⟨u1, u2, u3, u4, u5, u6, u7, u8⟩ := h
  have l1 : (zr_LL G len r).length = len (2 * r) := tx_len _ _ _
  have l2 : (zr_RR G len r).length = len (2 * r + 1) := tx_len _ _ _
  have e1 : tx_t TX0 (r * 16) (len (2 * r)) = zr_LL G len r := tx_congr fun i hi => by rw [hT _ (by omega), Nat.mul_comm r 16]
  have e2 : tx_t TX0 (r * 16 + 8) (len (2 * r + 1)) = zr_RR G len r := tx_congr fun i hi => by rw [hT _ (by omega), Nat.mul_comm r 16]
  refine ⟨by rw [l1]; exact e1, by rw [l2]; exact e2, by omega, by omega, u3, u4, fun k h1 h2 => ?_, fun k h1 h2 => ?_⟩
  · rw [l1] at h2
    rw [u7 k (by omega) (by omega)]
    have := (zr_sub (T := TX0) (b := 16 * r) (n := len (2 * r)) (k := k) (by omega) u3 hT (by omega) (by omega)).2.2.2.2
    rw [this]
  · rw [l2] at h2
    rw [u8 k (by omega) (by omega)]
    have := (zr_sub (T := TX0) (b := 16 * r + 8) (n := len (2 * r + 1)) (k := k) (by omega) u4 hT (by omega) (by omega)).2.2.2.2
    rw [this]
theorem zr_wT {ar G S TX0 en0 TY0 ln len pa : Nat → Nat} {R P ph L os : Nat} {lk : Nat → Int32} (h4 : zr_4 G S TX0 TY0 ln len) (h5 : zr_5 ar G en0 len R) (h8 : zr_8 ar G TX0 en0 ln len pa R P ph L os lk) : wk_T ar TX0 en0 (zr_LL G len) (zr_RR G len) (zr_LP G len pa) (zr_RP ar G pa) R P :=
  ⟨h5.1, h8.2.1, fun r hr => zr_ruleT (by have := h5.1; omega) (h5.2.1 r hr) h4.1, fun p hp => (h8.2.2.2.1 p hp).1⟩
theorem zr_pair {ar G en0 len pa : Nat → Nat} {R p : Nat} (h5 : zr_5 ar G en0 len R) (h : ∃ r i, r < R ∧ i < len (2 * r + 1) ∧ pa p = 16 * r + 8 + i) :
    ∃ r i, r < R ∧ i < len (2 * r + 1) ∧ pa p = 16 * r + 8 + i ∧ pa p / 16 = r ∧ zr_LP G len pa p = zr_LL G len r ∧ tx_T ar (zr_RP ar G pa p) ∧ (zr_RP ar G pa p).length = tx_z ar G (pa p) ∧ pa p + tx_z ar G (pa p) ≤ 16 * r + 16 ∧ len (2 * r + 1) ≤ 8 ∧ tx_z ar G (pa p) ≤ 8 := by
  obtain ⟨r, i, h1, h2, h3⟩ := h
  have hR := h5.1
  obtain ⟨u1, u2, u3, u4, u5, u6, u7, u8⟩ := h5.2.1 r h1
  have e : pa p / 16 = r := by omega
  obtain ⟨z1, z2, z3, z4, z5⟩ := zr_sub (T := G) (b := 16 * r + 8) (n := len (2 * r + 1)) (k := pa p) (by omega) u4 (fun _ _ => rfl) (by omega) (by omega)
  refine ⟨r, i, h1, h2, h3, e, ?_, z1, tx_len _ _ _, by omega, u2, by omega⟩
  unfold zr_LP zr_LL
  rw [e, Nat.mul_comm r 16]
theorem zr_h112 {ar G S TX0 en0 TY0 ln len pa : Nat → Nat} {R P ph L os : Nat} {lk : Nat → Int32} (h4 : zr_4 G S TX0 TY0 ln len) (h5 : zr_5 ar G en0 len R) (h8 : zr_8 ar G TX0 en0 ln len pa R P ph L os lk) :
    ∀ p, p < P → ∃ pl pr, oy_P (na_F pa) 1 p pl pr ∧ oy_T ar TY0 pl pr (zr_LP G len pa p) (zr_RP ar G pa p) ∧ pl + (zr_LP G len pa p).length ≤ 112 ∧ pr + (zr_RP ar G pa p).length ≤ 112 := by
  intro p hp
  obtain ⟨r, i, q1, q2, q3, q4, q5, q6, q7, q8, q9, q10⟩ := zr_pair (p := p) h5 (h8.2.2.1 p hp)
  have hR := h5.1
  have hP := h8.2.1
  obtain ⟨u1, u2, u3, u4, u5, u6, u7, u8⟩ := h5.2.1 r q1
  have l1 : (zr_LL G len r).length = len (2 * r) := tx_len _ _ _
  have hT := h4.2.2.1
  refine ⟨16 * r, pa p, Or.inr ⟨rfl, by omega, by omega, rfl, by omega⟩, ⟨?_, ?_, by rw [q5, l1]; exact u1, by omega, by rw [q5, l1]; omega, by omega, by rw [q5]; exact u3, q6⟩, by rw [q5, l1]; omega, by omega⟩
  · rw [q5, l1]
    exact tx_congr fun j hj => hT _ (by omega)
  · rw [q7]
    exact tx_congr fun j hj => hT _ (by omega)
theorem zr_wU {ar G S TX0 en0 TY0 ln len pa : Nat → Nat} {R P ph L os : Nat} {lk : Nat → Int32} (h4 : zr_4 G S TX0 TY0 ln len) (h5 : zr_5 ar G en0 len R) (h8 : zr_8 ar G TX0 en0 ln len pa R P ph L os lk) : wk_U ar TY0 (na_F pa) (zr_LL G len) (zr_RR G len) (zr_LP G len pa) (zr_RP ar G pa) R P := by
  refine ⟨h5.1, h8.2.1, fun r hr => ?_, fun p hp => ?_⟩
  · have hR := h5.1
    obtain ⟨u1, u2, u3, u4, u5, u6, u7, u8⟩ := h5.2.1 r hr
    have l1 : (zr_LL G len r).length = len (2 * r) := tx_len _ _ _
    have l2 : (zr_RR G len r).length = len (2 * r + 1) := tx_len _ _ _
    have hT := h4.2.2.1
    refine ⟨?_, ?_, by omega, by omega, by omega, by omega, u3, u4⟩
    · rw [l1]
      exact tx_congr fun j hj => hT _ (by omega)
    · rw [l2]
      exact tx_congr fun j hj => hT _ (by omega)
  · obtain ⟨pl, pr, q1, q2, _⟩ := zr_h112 h4 h5 h8 p hp
    exact ⟨pl, pr, q1, q2⟩
theorem zr_ed {ar G S TX0 TY0 ln len : Nat → Nat} {LP RP : Nat → List Nat} {R P : Nat} (hR : R ≤ 6) (h4 : zr_4 G S TX0 TY0 ln len) : ed_C ar TY0 LP RP R P = ed_C ar G LP RP R P := by
  have e : zd_D TY0 R = zd_D G R := by
    funext t
    apply propext
    unfold zd_D
    constructor
    · rintro ⟨r, hr, h⟩
      exact ⟨r, hr, by rw [← h4.2.2.1 _ (by omega)]; exact h⟩
    · rintro ⟨r, hr, h⟩
      exact ⟨r, hr, by rw [h4.2.2.1 _ (by omega)]; exact h⟩
  funext a b
  unfold ed_C
  rw [e]
/-- the unfinished rule's left side is empty exactly if nothing is typed -/
theorem zr_open0 {ar G en0 len : Nat → Nat} {R os om : Nat} (h : zr_6 ar G en0 len R os om) (h0 : len (2 * R) = 0) : os = 0 ∧ len (2 * R + 1) = 0 := by
  rcases h.2.2 with ⟨a, b, _⟩ | ⟨_, _, c, _⟩
  · exact ⟨a, b⟩
  · unfold zr_LL at c
    rw [h0] at c
    have := tx_T_pos c
    exact absurd this (Nat.lt_irrefl 0)
theorem zr_phase {ar G TX0 en0 ln len pa : Nat → Nat} {R P ph L os : Nat} {lk : Nat → Int32} (h8 : zr_8 ar G TX0 en0 ln len pa R P ph L os lk) : ph = 0 ∨ ph = 1 := by
  rcases h8.1 with ⟨a, _⟩ | ⟨a, _⟩
  · exact Or.inl a
  · exact Or.inr a
/-- loading: nothing is built -/
theorem zr_8l {ar G TX0 en0 ln len pa : Nat → Nat} {R os : Nat} {lk : Nat → Int32} : zr_8 ar G TX0 en0 ln len pa R 0 0 0 os lk :=
  ⟨Or.inl ⟨rfl, rfl, rfl⟩, by omega, fun p hp => absurd hp (Nat.not_lt_zero p), fun p hp => absurd hp (Nat.not_lt_zero p), fun z => absurd z (by omega)⟩
theorem zr_9l {ar : Nat → Nat} {P : Nat} {rec : Nat → Int32} : zr_9 ar P 0 rec := fun l hl => absurd hl (Nat.not_lt_zero l)
/-- a stored rule depends on its own cells alone -/
theorem zr_ruleK {ar G G' en en' len len' : Nat → Nat} {r : Nat} (hr : r < 7) (h : zr_rule ar G en len r) (h1 : ∀ k, 16 * r ≤ k → k < 16 * r + 16 → G' k = G k) (h2 : ∀ k, 16 * r ≤ k → k < 16 * r + 16 → en' k = en k) (h3 : len' (2 * r) = len (2 * r)) (h4 : len' (2 * r + 1) = len (2 * r + 1)) : zr_rule ar G' en' len' r := by
  obtain ⟨u1, u2, u3, u4, u5, u6, u7, u8⟩ := h
  have e1 : zr_LL G' len' r = zr_LL G len r := by
    unfold zr_LL
    rw [h3]
    exact tx_congr fun i hi => h1 _ (by omega) (by omega)
  have e2 : zr_RR G' len' r = zr_RR G len r := by
    unfold zr_RR
    rw [h4]
    exact tx_congr fun i hi => h1 _ (by omega) (by omega)
  refine ⟨by omega, by omega, by rw [e1]; exact u3, by rw [e2]; exact u4, by rw [h1 _ (by omega) (by omega)]; exact u5, by rw [e1, e2]; exact u6, fun k a b => ?_, fun k a b => ?_⟩
  · rw [h3] at b
    rw [h2 k (by omega) (by omega), u7 k a b]
    unfold zr_LL at e1 u3
    rw [h3] at e1
    have := (tx_zeq (a := ar) (T := G) (T' := G') (x := 16 * r) (y := 16 * r) (n := len (2 * r)) (j := k - 16 * r) u3 (by omega) e1.symm (by omega)).2
    rw [show 16 * r + (k - 16 * r) = k by omega] at this
    rw [this]
  · rw [h4] at b
    rw [h2 k (by omega) (by omega), u8 k a b]
    unfold zr_RR at e2 u4
    rw [h4] at e2
    have := (tx_zeq (a := ar) (T := G) (T' := G') (x := 16 * r + 8) (y := 16 * r + 8) (n := len (2 * r + 1)) (j := k - (16 * r + 8)) u4 (by omega) e2.symm (by omega)).2
    rw [show 16 * r + 8 + (k - (16 * r + 8)) = k by omega] at this
    rw [this]
/-- the actual cells read as the ghost ones -/
theorem zr_TY {ar TY0 TY A dg hd gt ft pt : Nat → Nat} (h3 : zr_3 ar TY0 TY A dg hd gt ft pt) {b n : Nat} (h : b + n ≤ 144) : tx_t TY b n = tx_t TY0 b n := tx_congr fun i hi => h3.1.2.1 _ (by omega)
theorem zr_TX {TX0 en0 TX en ct sh kp : Nat → Nat} {gr : Nat → Int32} (h2 : zr_2 TX0 en0 TX en ct sh kp gr) {b n : Nat} (h : b + n ≤ 272) : tx_t TX b n = tx_t TX0 b n := tx_congr fun i hi => h2.1.2.1 _ (by omega)
theorem zr_GX {G S TX0 TY0 ln len : Nat → Nat} (h4 : zr_4 G S TX0 TY0 ln len) {b n : Nat} (h : b + n ≤ 112) : tx_t TX0 b n = tx_t G b n := tx_congr fun i hi => h4.1 _ (by omega)
theorem zr_GY {G S TX0 TY0 ln len : Nat → Nat} (h4 : zr_4 G S TX0 TY0 ln len) {b n : Nat} (h : b + n ≤ 112) : tx_t TY0 b n = tx_t G b n := tx_congr fun i hi => h4.2.2.1 _ (by omega)
theorem zr_SY {G S TX0 TY0 ln len : Nat → Nat} (h4 : zr_4 G S TX0 TY0 ln len) {b n : Nat} (h : b + n ≤ 32) : tx_t TY0 (112 + b) n = tx_t S b n := tx_congr fun i hi => by rw [Nat.add_assoc]; exact h4.2.2.2.1 _ (by omega)
end
section
theorem i_vc_undo {k : Nat} {u : SX} {v : SY} (I : i_Rel k u v) (hk : k + 5 ≤ 2564) : wpX_undo (fun r u' => wpY_undo (fun r' v' => r' = r ∧ i_Rel (k + 5) u' v') v) u := by
  refine zr_el (Q := fun u v => wpX_undo (fun r u' => wpY_undo (fun r' v' => r' = r ∧ i_Rel (k + 5) u' v') v) u) ?_ I
  intro c1 c2 c3 c4 c5 c6 c7 df cap ph R P L os om sl sm ar TX en ct ln pc sh kp TY A len pa dg lvl hd gt ft pt G S TX0 en0 TY0 ab gr rl bd lk rec bi h1 h2 h3 h4 h5 h6 h7 h8 h9
  have hL := rm_L8 h8.2.1 h9
  by_cases e : L = 0
  · subst e
    exact br_t rfl (br_t rfl ⟨rfl, zr_in h1 h2 h3 h4 h5 h6 h7 h8 h9⟩)
  · have en0 : ¬ nI L = 0 := nI_ne0 (by omega) (by omega)
    have es : nI L - 1 = nI (L - 1) := pk_sub (a := L) (b := 1) (by omega)
    refine br_f en0 (nm_r (e' := nI (L - 1)) es (br_f en0 (nm_r (e' := nI (L - 1)) es ⟨rfl, zr_in h1 h2 h3 h4 h5 h6 h7 ?_ (fun l hl => h9 l (by omega))⟩)))
    obtain ⟨a, b, c, d, e2⟩ := h8
    refine ⟨?_, b, c, d, e2⟩
    rcases a with ⟨a1, a2, a3⟩ | a
    · omega
    · exact Or.inr a
theorem i_vc_recordCell {k : Nat} {u : SX} {v : SY} (I : i_Rel k u v) (hk : k + 5 ≤ 2564) (v1 : Int32) (v2 : Int32) : wpX_recordCell (fun r => wpY_recordCell (fun r' => r' = r ∧ i_Rel (k + 5) u v) v v1 v2) u v1 v2 := by
  have I' := i_up I
  revert I'
  refine zr_el (Q := fun u v => i_Rel (k + 5) u v → wpX_recordCell (fun r => wpY_recordCell (fun r' => r' = r ∧ i_Rel (k + 5) u v) v v1 v2) u v1 v2) ?_ I
  intro c1 c2 c3 c4 c5 c6 c7 df cap ph R P L os om sl sm ar TX en ct ln pc sh kp TY A len pa dg lvl hd gt ft pt G S TX0 en0 TY0 ab gr rl bd lk rec bi h1 h2 h3 h4 h5 h6 h7 h8 h9 I'
  have hL := rm_L8 h8.2.1 h9
  by_cases a1 : v1 < 0
  · exact br_t a1 (br_t a1 ⟨rfl, I'⟩)
  · obtain ⟨l, hl, rfl⟩ := nI_of a1
    refine br_f a1 ?_
    by_cases a2 : L ≤ l
    · exact br_t (nI_le a2 hl) (br_f a1 (br_t (nI_le a2 hl) ⟨rfl, I'⟩))
    · have a2' : ¬ nI L ≤ nI l := nI_ge (by omega) (by omega)
      refine br_f a2' ?_
      by_cases a3 : v2 < 0
      · exact br_t a3 (br_f a1 (br_f a2' (br_t a3 ⟨rfl, I'⟩)))
      · obtain ⟨f, hf, rfl⟩ := nI_of a3
        refine br_f a3 ?_
        by_cases a4 : f ≤ 2
        · have i1 : nI l * 3 + nI f = nI (l * 3 + f) := by rw [← nI_add, ← pk_mul]; rfl
          have i2 : (3 : Int32) * nI l + nI f = nI (l * 3 + f) := by rw [← nI_add, show l * 3 = 3 * l from Nat.mul_comm _ _, ← pk_mul]; rfl
          refine br_t (nI_le (b := 2) a4 (by omega)) ⟨pk_in (l * 3 + f) 24 (by omega) i1, ?_⟩
          refine br_f a1 (br_f a2' (br_f a3 (br_t (nI_le (b := 2) a4 (by omega)) ⟨pk_in (l * 3 + f) 24 (by omega) i2, ?_⟩)))
          rw [i1, i2]
          exact ⟨rfl, I'⟩
        · have a4' : ¬ nI f ≤ 2 := nI_ge (a := 2) (by omega) (by omega)
          exact br_f a4' (br_f a1 (br_f a2' (br_f a3 (br_f a4' ⟨rfl, I'⟩))))
theorem i_vc_termCell {k : Nat} {u : SX} {v : SY} (I : i_Rel k u v) (hk : k + 5 ≤ 2564) (v1 : Int32) : wpX_termCell (fun r => wpY_termCell (fun r' => r' = r ∧ i_Rel (k + 5) u v) v v1) u v1 := by
  have I' := i_up I
  revert I'
  refine zr_el (Q := fun u v => i_Rel (k + 5) u v → wpX_termCell (fun r => wpY_termCell (fun r' => r' = r ∧ i_Rel (k + 5) u v) v v1) u v1) ?_ I
  intro c1 c2 c3 c4 c5 c6 c7 df cap ph R P L os om sl sm ar TX en ct ln pc sh kp TY A len pa dg lvl hd gt ft pt G S TX0 en0 TY0 ab gr rl bd lk rec bi h1 h2 h3 h4 h5 h6 h7 h8 h9 I'
  have hsl := h7.1
  have hc := h1.2.2.1
  by_cases a1 : v1 < 0
  · exact br_t a1 (br_t a1 ⟨rfl, I'⟩)
  · obtain ⟨l, hl, rfl⟩ := nI_of a1
    refine br_f a1 ?_
    by_cases a2 : l < sl
    · have i1 : (240 : Int32) + nI l = nI (240 + l) := nI_add 240 l
      have i2 : (112 : Int32) + nI l = nI (112 + l) := nI_add 112 l
      refine br_t (nI_lt a2 (by omega)) ⟨pk_in (240 + l) 320 (by omega) i1, br_f a1 (br_t (nI_lt a2 (by omega)) ⟨pk_in (112 + l) 192 (by omega) i2, ?_, I'⟩)⟩
      rw [i1, i2, nI_clamp (by omega), nI_clamp (by omega), na_at, na_at, h2.1.2.1 _ (by omega), h3.1.2.1 _ (by omega), h4.2.1 l (by omega), h4.2.2.2.1 l (by omega)]
    · have a2' : ¬ nI l < nI sl := nI_nlt (by omega) (by omega)
      exact br_f a2' (br_f a1 (br_f a2' ⟨rfl, I'⟩))
theorem i_vc_drop {k : Nat} {u : SX} {v : SY} (I : i_Rel k u v) (hk : k + 5 ≤ 2564) : wpX_drop (fun r u' => wpY_drop (fun r' v' => r' = r ∧ i_Rel (k + 5) u' v') v) u := by
  refine zr_el (Q := fun u v => wpX_drop (fun r u' => wpY_drop (fun r' v' => r' = r ∧ i_Rel (k + 5) u' v') v) u) ?_ I
  intro c1 c2 c3 c4 c5 c6 c7 df cap ph R P L os om sl sm ar TX en ct ln pc sh kp TY A len pa dg lvl hd gt ft pt G S TX0 en0 TY0 ab gr rl bd lk rec bi h1 h2 h3 h4 h5 h6 h7 h8 h9
  have hR := h5.1
  rcases h8.1 with ⟨e1, e2, e3⟩ | ⟨e1, e2, e3⟩
  · subst e1
    subst e2
    subst e3
    have hln := h4.2.2.2.2.2
    -- the emptied slot
    have fin : ∀ R', R' ≤ R → R' ≤ 6 → (∀ i, 2 * R' + 2 ≤ i → i < 14 → len i = 0) →
        wX_drop_61 (fun r u' => wY_drop_75 (fun r' v' => r' = r ∧ i_Rel (k + 5) u' v') (nI cap) (nI 0) (nI R') (nI 0) (nI 0) (nI sl) (na_F TY) (na_F A) (na_F len) (na_F pa) rec (na_F dg) (na_F lvl) bi (na_F hd) (na_F gt) (na_F ft) (na_F pt)) c1 c2 c3 c4 c5 c6 c7 (nI cap) (nI 0) (nI R') (nI 0) (nI 0) df (nI os) (nI om) (nI sl) (nI sm) (na_F TX) (na_F en) (na_F ct) (na_F ln) (na_F pc) ab gr rl (na_F ar) (na_F sh) (na_F kp) bd lk rec := by
      intro R' hR' hR6 hz
      have i1 : nI R' * 2 = nI (2 * R') := by rw [show 2 * R' = R' * 2 from Nat.mul_comm _ _, ← pk_mul]; rfl
      have i2 : (2 : Int32) * nI R' = nI (2 * R') := by rw [← pk_mul]; rfl
      have i3 : nI (2 * R') + 1 = nI (2 * R' + 1) := nI_1 _
      unfold wX_drop_61 wY_drop_75
      rw [i1, i2, i3, nI_clamp (n := 2 * R') (by omega), nI_clamp (n := 2 * R' + 1) (by omega)]
      refine ⟨vp_in_nI (by omega) (by omega), nm_r (na_upd ln (2 * R') 0) ⟨vp_in_nI (by omega) (by omega), nm_r (na_upd _ (2 * R' + 1) 0) ?_⟩⟩
      refine ⟨vp_in_nI (by omega) (by omega), nm_r (na_upd len (2 * R') 0) ⟨vp_in_nI (by omega) (by omega), nm_r (na_upd _ (2 * R' + 1) 0) ⟨rfl, ?_⟩⟩⟩
      refine zr_in (os := 0) (om := 1) (R := R') (P := 0) (L := 0) (ph := 0) h1 h2 h3 ⟨h4.1, h4.2.1, h4.2.2.1, h4.2.2.2.1, h4.2.2.2.2.1, fun i hi => ?_⟩ ⟨hR6, fun r hr => ?_, fun i hi1 hi2 => ?_⟩ ⟨fun _ => ?_, by omega, Or.inl ⟨rfl, na_us _ _ _, ?_, ?_, ?_⟩⟩ h7 zr_8l zr_9l
      · unfold na_u
        split
        · rfl
        · split
          · rfl
          · exact hln i hi
      · exact zr_ruleK (by omega) (h5.2.1 r (by omega)) (fun _ _ _ => rfl) (fun _ _ _ => rfl) (by rw [na_un (by omega), na_un (by omega)]) (by rw [na_un (by omega), na_un (by omega)])
      · rw [na_un (by omega), na_un (by omega)]
        exact hz i hi1 hi2
      · rw [na_un (by omega), na_us]
      · rw [na_un (by omega), na_us]; omega
      · unfold zr_LL
        rw [na_un (by omega), na_us]
        exact rfl
      · intro z
        rw [na_un (by omega), na_us] at z
        omega
    have i1 : nI R * 2 = nI (2 * R) := by rw [show 2 * R = R * 2 from Nat.mul_comm _ _, ← pk_mul]; rfl
    have i2 : (2 : Int32) * nI R = nI (2 * R) := by rw [← pk_mul]; rfl
    have l1 : na_F ln (nI R * 2).toNatClampNeg = nI (len (2 * R)) := by rw [i1, nI_clamp (by omega), na_at, hln _ (by omega)]
    have l2 : na_F len ((2 : Int32) * nI R).toNatClampNeg = nI (len (2 * R)) := by rw [i2, nI_clamp (by omega), na_at]
    have hlen8 : len (2 * R) ≤ 8 := by
      rcases h6.2.2 with ⟨_, _, b, _⟩ | ⟨_, b, _⟩
      · omega
      · exact b
    have v1 : vp_in (nI R * 2) 30 := pk_in (2 * R) 30 (by omega) i1
    have v2 : vp_in ((2 : Int32) * nI R) 14 := pk_in (2 * R) 14 (by omega) i2
    refine br_f (by decide) ⟨v1, ?_⟩
    rw [l1]
    by_cases hz : len (2 * R) = 0
    · obtain ⟨o1, o2⟩ := zr_open0 h6 hz
      have z0 : nI (len (2 * R)) = 0 := by rw [hz]; rfl
      refine br_t z0 ?_
      by_cases hR0 : R = 0
      · subst hR0
        refine br_t rfl (br_f (by decide) ⟨v2, ?_⟩)
        rw [l2]
        exact br_t z0 (br_t rfl ⟨rfl, zr_in (P := 0) (L := 0) (ph := 0) h1 h2 h3 h4 h5 h6 h7 h8 h9⟩)
      · have n0 : ¬ nI R = 0 := nI_ne0 (by omega) (by omega)
        have es : nI R - 1 = nI (R - 1) := pk_sub (a := R) (b := 1) (by omega)
        refine br_f n0 (nm_r (e' := nI (R - 1)) es ?_)
        have F := fin (R - 1) (by omega) (by omega) (fun i hi1 hi2 => by
          by_cases c0 : i = 2 * R
          · rw [c0]; exact hz
          · by_cases c1 : i = 2 * R + 1
            · rw [c1]; exact o2
            · exact h5.2.2 i (by omega) hi2)
        have tr : ∀ (r : Int32) (u' : SX), wY_drop_75 (fun r' v' => r' = r ∧ i_Rel (k + 5) u' v') (nI cap) (nI 0) (nI (R - 1)) (nI 0) (nI 0) (nI sl) (na_F TY) (na_F A) (na_F len) (na_F pa) rec (na_F dg) (na_F lvl) bi (na_F hd) (na_F gt) (na_F ft) (na_F pt) →
            wpY_drop (fun r' v' => r' = r ∧ i_Rel (k + 5) u' v') (nI cap, nI 0, nI R, nI 0, nI 0, nI sl, na_F TY, na_F A, na_F len, na_F pa, rec, na_F dg, na_F lvl, bi, na_F hd, na_F gt, na_F ft, na_F pt) := by
          intro r u' hh
          refine br_f (by decide) ⟨v2, ?_⟩
          rw [l2]
          refine br_t z0 (br_f n0 ⟨v2, ?_⟩)
          rw [l2]
          exact br_t z0 (nm_r (e' := nI (R - 1)) es hh)
        obtain ⟨q1, q2⟩ := F
        refine ⟨q1, fun a ea => ?_⟩
        obtain ⟨q3, q4⟩ := q2 a ea
        exact ⟨q3, fun b eb => tr _ _ (q4 b eb)⟩
    · have n0 : ¬ nI (len (2 * R)) = 0 := nI_ne0 (by omega) (by omega)
      refine br_f n0 ?_
      have F := fin R (by omega) hR h5.2.2
      have tr : ∀ (r : Int32) (u' : SX), wY_drop_75 (fun r' v' => r' = r ∧ i_Rel (k + 5) u' v') (nI cap) (nI 0) (nI R) (nI 0) (nI 0) (nI sl) (na_F TY) (na_F A) (na_F len) (na_F pa) rec (na_F dg) (na_F lvl) bi (na_F hd) (na_F gt) (na_F ft) (na_F pt) →
          wpY_drop (fun r' v' => r' = r ∧ i_Rel (k + 5) u' v') (nI cap, nI 0, nI R, nI 0, nI 0, nI sl, na_F TY, na_F A, na_F len, na_F pa, rec, na_F dg, na_F lvl, bi, na_F hd, na_F gt, na_F ft, na_F pt) := by
        intro r u' hh
        refine br_f (by decide) ⟨v2, ?_⟩
        rw [l2]
        refine br_f n0 ⟨v2, ?_⟩
        rw [l2]
        exact br_f n0 hh
      obtain ⟨q1, q2⟩ := F
      refine ⟨q1, fun a ea => ?_⟩
      obtain ⟨q3, q4⟩ := q2 a ea
      exact ⟨q3, fun b eb => tr _ _ (q4 b eb)⟩
  · subst e1
    refine br_t rfl (br_t rfl ⟨rfl, zr_in (ph := 0) (P := 0) (L := 0) h1 h2 h3 h4 h5 h6 h7 zr_8l zr_9l⟩)
end
section
section
variable {x_pairSlot x_subjectBase x_filteredLeft x_filteredRight x_scratch x_allOrders x_equalMark x_termCells x_phase x_ruleCount x_pairCount x_lineCount x_defined x_openSide x_openMissing x_subjectLength x_subjectMissing : Int32} {x_tok x_end x_cut x_length x_precedences x_above x_greater x_relation x_arity x_shape x_kept x_bound x_links x_lines : Nat → Int32}
variable {y_cap y_phase y_rules y_pairs y_lines y_size : Int32} {y_m y_ar y_len y_pairAt y_rec y_digit y_level y_bind y_hide y_gt y_fit y_path : Nat → Int32}
theorem zx_isPair {post : Int32 → Prop} {P : Nat} {p0 : Int32} (hP : P ≤ 8) (h1 : ∀ p, p < P → p0 = nI p → post 1) (h0 : (∀ p, p < P → p0 ≠ nI p) → post 0) : wpX_isPair post (x_pairSlot, x_subjectBase, x_filteredLeft, x_filteredRight, x_scratch, x_allOrders, x_equalMark, x_termCells, x_phase, x_ruleCount, nI P, x_lineCount, x_defined, x_openSide, x_openMissing, x_subjectLength, x_subjectMissing, x_tok, x_end, x_cut, x_length, x_precedences, x_above, x_greater, x_relation, x_arity, x_shape, x_kept, x_bound, x_links, x_lines) p0 := by
  by_cases a1 : p0 < 0
  · refine br_t a1 (h0 fun p hp e => ?_)
    rw [e] at a1
    exact nI_pos (by omega) a1
  · obtain ⟨j, hj, rfl⟩ := nI_of a1
    refine br_f a1 ?_
    by_cases a2 : P ≤ j
    · refine br_t (nI_le a2 hj) (h0 fun p hp e => ?_)
      have := (nI_eq hj (by omega)).mp e
      omega
    · exact br_f (nI_ge (by omega) (by omega)) (h1 j (by omega) rfl)
end
theorem ix_pair (x : Int32) {P : Nat} (hP : P ≤ 8) : (∃ p, p < P ∧ x = nI p) ∨ (x < 0 ∨ (¬ x < 0 ∧ nI P ≤ x ∧ ¬ x < nI P)) ∧ ∀ p, p < P → x ≠ nI p := by
  by_cases a1 : x < 0
  · refine Or.inr ⟨Or.inl a1, fun p hp e => ?_⟩
    rw [e] at a1
    exact nI_pos (by omega) a1
  · obtain ⟨j, hj, rfl⟩ := nI_of a1
    by_cases a2 : j < P
    · exact Or.inl ⟨j, a2, rfl⟩
    · refine Or.inr ⟨Or.inr ⟨a1, nI_le (by omega) hj, nI_nlt (by omega) hj⟩, fun p hp e => ?_⟩
      have := (nI_eq hj (by omega)).mp e
      omega
theorem i_vc_edge {k : Nat} {u : SX} {v : SY} (I : i_Rel k u v) (hk : k + 5 ≤ 2564) (v1 : Int32) (v2 : Int32) : wpX_edge (fun r => wpY_edge (fun r' v' => r' = r ∧ i_Rel (k + 5) u v') v v1 v2) u v1 v2 := by
  refine zr_el (Q := fun u v => wpX_edge (fun r => wpY_edge (fun r' v' => r' = r ∧ i_Rel (k + 5) u v') v v1 v2) u v1 v2) ?_ I
  intro c1 c2 c3 c4 c5 c6 c7 df cap ph R P L os om sl sm ar TX en ct ln pc sh kp TY A len pa dg lvl hd gt ft pt G S TX0 en0 TY0 ab gr rl bd lk rec bi h1 h2 h3 h4 h5 h6 h7 h8 h9
  have hP := h8.2.1
  have I' : i_Rel (k + 5) (c1, c2, c3, c4, c5, c6, c7, nI cap, nI ph, nI R, nI P, nI L, df, nI os, nI om, nI sl, nI sm, na_F TX, na_F en, na_F ct, na_F ln, na_F pc, ab, gr, rl, na_F ar, na_F sh, na_F kp, bd, lk, rec) (nI cap, nI ph, nI R, nI P, nI L, nI sl, na_F TY, na_F A, na_F len, na_F pa, rec, na_F dg, na_F lvl, bi, na_F hd, na_F gt, na_F ft, na_F pt) := zr_in h1 h2 h3 h4 h5 h6 h7 h8 h9
  -- the reference refuses
  have yno : (∀ p, p < P → v1 ≠ nI p) ∨ (∀ p, p < P → v2 ≠ nI p) → wpY_edge (fun r' v' => r' = 0 ∧ i_Rel (k + 5) (c1, c2, c3, c4, c5, c6, c7, nI cap, nI ph, nI R, nI P, nI L, df, nI os, nI om, nI sl, nI sm, na_F TX, na_F en, na_F ct, na_F ln, na_F pc, ab, gr, rl, na_F ar, na_F sh, na_F kp, bd, lk, rec) v') (nI cap, nI ph, nI R, nI P, nI L, nI sl, na_F TY, na_F A, na_F len, na_F pa, rec, na_F dg, na_F lvl, bi, na_F hd, na_F gt, na_F ft, na_F pt) v1 v2 := by
    intro hno
    rcases ix_pair v1 hP with ⟨p, hp, e⟩ | ⟨a, a'⟩
    · rcases ix_pair v2 hP with ⟨q, hq, e2⟩ | ⟨b, b'⟩
      · rcases hno with z | z
        · exact absurd e (z p hp)
        · exact absurd e2 (z q hq)
      · subst e
        refine br_f (nI_pos (by omega)) ?_
        rcases b with b | ⟨b1, b2, b3⟩
        · exact br_t b ⟨rfl, I'⟩
        · exact br_f b1 (br_f (nI_ge hp (by omega)) (br_f b3 ⟨rfl, I'⟩))
    · rcases a with a | ⟨a1, a2, a3⟩
      · exact br_t a ⟨rfl, I'⟩
      · exact br_f a1 (br_c (fun _ => ⟨rfl, I'⟩) (fun _ => br_t a2 ⟨rfl, I'⟩))
  unfold wpX_edge
  refine zx_isPair hP ?_ ?_
  rotate_left
  · intro hno
    exact br_t rfl (yno (Or.inl hno))
  intro p hp e
  refine br_f (by decide) ?_
  refine zx_isPair hP ?_ ?_
  rotate_left
  · intro hno
    exact br_t rfl (yno (Or.inr hno))
  intro q hq e2
  subst e
  subst e2
  refine br_f (by decide) ⟨vp_in_nI (by omega) (by omega), ?_⟩
  rw [nI_clamp (by omega)]
  have hph : ph = 1 := by
    rcases h8.1 with ⟨_, z, _⟩ | ⟨z, _⟩
    · omega
    · exact z
  have hC := h8.2.2.2.2 hph
  have hb := hC.2.1 p (by omega) q (by omega)
  have qz := zb_q (n := q) (by omega) (lk p)
  have E : ∀ r : Int32, ((ed_C ar G (zr_LP G len pa) (zr_RP ar G pa) R P p q → (1 : Int32) = r) ∧ (¬ ed_C ar G (zr_LP G len pa) (zr_RP ar G pa) R P p q → (0 : Int32) = r)) → wpY_edge (fun r' v' => r' = r ∧ i_Rel (k + 5) (c1, c2, c3, c4, c5, c6, c7, nI cap, nI ph, nI R, nI P, nI L, df, nI os, nI om, nI sl, nI sm, na_F TX, na_F en, na_F ct, na_F ln, na_F pc, ab, gr, rl, na_F ar, na_F sh, na_F kp, bd, lk, rec) v') (nI cap, nI ph, nI R, nI P, nI L, nI sl, na_F TY, na_F A, na_F len, na_F pa, rec, na_F dg, na_F lvl, bi, na_F hd, na_F gt, na_F ft, na_F pt) (nI p) (nI q) := by
    intro r hr
    refine zy_edgeW h1.1 (zr_wU h4 h5 h8) (zr_h112 h4 h5 h8) h3.1 hp hq h3.2.1 (fun ft' hft' => ?_)
    rw [zr_ed h5.1 h4]
    exact ⟨fun z => ⟨hr.1 z, zr_in h1 h2 ⟨h3.1, hft', h3.2.2⟩ h4 h5 h6 h7 h8 h9⟩, fun z => ⟨hr.2 z, zr_in h1 h2 ⟨h3.1, hft', h3.2.2⟩ h4 h5 h6 h7 h8 h9⟩⟩
  by_cases hbit : bt (lk p) q = true
  · refine br_f (fun z => by rw [qz.mp z] at hbit; exact absurd hbit (by decide)) (E 1 ⟨fun _ => rfl, fun z => absurd (hb.mp hbit) z⟩)
  · have hbf : bt (lk p) q = false := by cases h : bt (lk p) q; rfl; exact absurd h hbit
    exact br_t (qz.mpr hbf) (E 0 ⟨fun z => absurd (hb.mpr z) hbit, fun _ => rfl⟩)

theorem i_vc_component {k : Nat} {u : SX} {v : SY} (I : i_Rel k u v) (hk : k + 5 ≤ 2564) (v1 : Int32) : wpX_component (fun r => wpY_component (fun r' v' => r' = r ∧ i_Rel (k + 5) u v') v v1) u v1 := by
  refine zr_el (Q := fun u v => wpX_component (fun r => wpY_component (fun r' v' => r' = r ∧ i_Rel (k + 5) u v') v v1) u v1) ?_ I
  intro c1 c2 c3 c4 c5 c6 c7 df cap ph R P L os om sl sm ar TX en ct ln pc sh kp TY A len pa dg lvl hd gt ft pt G S TX0 en0 TY0 ab gr rl bd lk rec bi h1 h2 h3 h4 h5 h6 h7 h8 h9
  have hP := h8.2.1
  have hL := rm_L8 hP h9
  have I' : i_Rel (k + 5) (c1, c2, c3, c4, c5, c6, c7, nI cap, nI ph, nI R, nI P, nI L, df, nI os, nI om, nI sl, nI sm, na_F TX, na_F en, na_F ct, na_F ln, na_F pc, ab, gr, rl, na_F ar, na_F sh, na_F kp, bd, lk, rec) (nI cap, nI ph, nI R, nI P, nI L, nI sl, na_F TY, na_F A, na_F len, na_F pa, rec, na_F dg, na_F lvl, bi, na_F hd, na_F gt, na_F ft, na_F pt) := zr_in h1 h2 h3 h4 h5 h6 h7 h8 h9
  unfold wpX_component
  refine zx_isPair hP ?_ ?_
  · intro p hp e
    refine br_f (by decide) ?_
    subst e
    have hph : ph = 1 := by
      rcases h8.1 with ⟨_, z, _⟩ | ⟨z, _⟩
      · omega
      · exact z
    have hC := h8.2.2.2.2 hph
    refine zx_remaining hL ?_
    refine zx_componentIn (by omega) hC.1 hC.2.1 hC.2.2 (fun c hc => ?_)
    refine br_f (nI_pos (by omega)) (br_t (nI_lt hp (by omega)) ?_)
    refine zy_remaining hL ?_
    refine zy_compW h1.1 (zr_wU h4 h5 h8) (zr_h112 h4 h5 h8) h3.1 (by omega) (fun a ha => ?_) h3.2.1 h3.2.2 (fun c' ft' pt' hc' hft' hpt' => ?_)
    · refine rm_bits hP L a ?_ ha
      apply Nat.lt_of_not_le
      intro z
      rw [b_big z] at ha
      exact absurd ha (by decide)
    · rw [zr_ed h5.1 h4] at hc'
      exact ⟨gc_uniq hc' hc, zr_in h1 h2 ⟨h3.1, hft', hpt'⟩ h4 h5 h6 h7 h8 h9⟩
  · intro hno
    refine br_t rfl ?_
    rcases ix_pair v1 hP with ⟨p, hp, e⟩ | ⟨a, a'⟩
    · exact absurd e (hno p hp)
    · rcases a with a | ⟨a1, a2, a3⟩
      · exact br_t a ⟨rfl, I'⟩
      · exact br_f a1 (br_f a3 ⟨rfl, I'⟩)
theorem i_vc_status {k : Nat} {u : SX} {v : SY} (I : i_Rel k u v) (hk : k + 5 ≤ 2564) (v1 : Int32) : wpX_status (fun r => wpY_status (fun r' => r' = r ∧ i_Rel (k + 5) u v) v v1) u v1 := by
  have I' := i_up I
  revert I'
  refine zr_el (Q := fun u v => i_Rel (k + 5) u v → wpX_status (fun r => wpY_status (fun r' => r' = r ∧ i_Rel (k + 5) u v) v v1) u v1) ?_ I
  intro c1 c2 c3 c4 c5 c6 c7 df cap ph R P L os om sl sm ar TX en ct ln pc sh kp TY A len pa dg lvl hd gt ft pt G S TX0 en0 TY0 ab gr rl bd lk rec bi h1 h2 h3 h4 h5 h6 h7 h8 h9 I'
  have hP := h8.2.1
  have hL := rm_L8 hP h9
  have hc := h1.2.2.1
  have hsl := h7.1
  by_cases a1 : v1 < 0
  · have n : ∀ j : Nat, j < 8 → ¬ v1 = nI j := fun j hj e => by rw [e] at a1; exact nI_pos (by omega) a1
    have l8 : v1 < 8 := by
      rw [Int32.lt_iff_toInt_lt] at a1 ⊢
      have e0 : (0 : Int32).toInt = 0 := by decide
      have e8 : (8 : Int32).toInt = 8 := by decide
      omega
    exact br_t a1 (br_t l8 (br_f (n 0 (by omega)) (br_f (n 1 (by omega)) (br_f (n 2 (by omega)) (br_f (n 3 (by omega)) (br_f (n 4 (by omega)) (br_f (n 5 (by omega)) (br_f (n 6 (by omega)) (br_f (n 7 (by omega)) (br_t l8 ⟨rfl, I'⟩))))))))))
  · obtain ⟨j, hj, rfl⟩ := nI_of a1
    refine br_f a1 ?_
    have ne : ∀ m : Nat, m < 8 → j ≠ m → ¬ nI j = nI m := fun m hm hne e => hne ((nI_eq hj (by omega)).mp e)
    by_cases a2 : 7 < j
    · have g7 : (7 : Int32) < nI j := nI_lt (a := 7) a2 hj
      have g8 : ¬ nI j < 8 := nI_nlt (b := 8) (by omega) hj
      refine br_t g7 (br_f g8 ?_)
      by_cases a3 : 11 < j
      · have g11 : (11 : Int32) < nI j := nI_lt (a := 11) a3 hj
        exact br_t g11 (br_f (ne 0 (by omega) (by omega)) (br_f (ne 1 (by omega) (by omega)) (br_f (ne 2 (by omega) (by omega)) (br_f (ne 3 (by omega) (by omega)) (br_f (ne 4 (by omega) (by omega)) (br_f (ne 5 (by omega) (by omega)) (br_f (ne 6 (by omega) (by omega)) (br_f (ne 7 (by omega) (by omega)) (br_f g8 (br_t g11 ⟨rfl, I'⟩))))))))))
      · have g11 : ¬ (11 : Int32) < nI j := nI_nlt (a := 11) (by omega) (by omega)
        have es : nI j - 8 = nI (j - 8) := pk_sub (a := j) (b := 8) (by omega)
        refine br_f g11 ⟨pk_in (j - 8) 8 (by omega) es, ?_⟩
        refine br_f (ne 0 (by omega) (by omega)) (br_f (ne 1 (by omega) (by omega)) (br_f (ne 2 (by omega) (by omega)) (br_f (ne 3 (by omega) (by omega)) (br_f (ne 4 (by omega) (by omega)) (br_f (ne 5 (by omega) (by omega)) (br_f (ne 6 (by omega) (by omega)) (br_f (ne 7 (by omega) (by omega)) (br_f g8 (br_f g11 ⟨pk_in (j - 8) 16 (by omega) es, ?_, I'⟩)))))))))
        rw [es, nI_clamp (by omega), na_at, na_at, h3.1.2.2.1 _ (by omega)]
    · refine br_f (nI_nlt (a := 7) (by omega) (by omega)) ?_
      by_cases e0 : j = 0
      · subst e0; exact br_t rfl (br_t rfl ⟨rfl, I'⟩)
      refine br_f (ne 0 (by omega) e0) ?_
      by_cases e1 : j = 1
      · subst e1; exact br_t rfl (br_f (ne 0 (by omega) (by omega)) (br_t rfl ⟨rfl, I'⟩))
      refine br_f (ne 1 (by omega) e1) ?_
      by_cases e2 : j = 2
      · subst e2; exact br_t rfl (br_f (ne 0 (by omega) (by omega)) (br_f (ne 1 (by omega) (by omega)) (br_t rfl ⟨rfl, I'⟩)))
      refine br_f (ne 2 (by omega) e2) ?_
      by_cases e3 : j = 3
      · subst e3; exact br_t rfl (br_f (ne 0 (by omega) (by omega)) (br_f (ne 1 (by omega) (by omega)) (br_f (ne 2 (by omega) (by omega)) (br_t rfl ⟨rfl, I'⟩))))
      refine br_f (ne 3 (by omega) e3) ?_
      by_cases e4 : j = 4
      · subst e4
        refine br_t rfl (zx_remaining hL (br_f (ne 0 (by omega) (by omega)) (br_f (ne 1 (by omega) (by omega)) (br_f (ne 2 (by omega) (by omega)) (br_f (ne 3 (by omega) (by omega)) (br_t rfl ?_))))))
        exact zy_remaining hL ⟨rfl, I'⟩
      refine br_f (ne 4 (by omega) e4) ?_
      by_cases e5 : j = 5
      · subst e5; exact br_t rfl (br_f (ne 0 (by omega) (by omega)) (br_f (ne 1 (by omega) (by omega)) (br_f (ne 2 (by omega) (by omega)) (br_f (ne 3 (by omega) (by omega)) (br_f (ne 4 (by omega) (by omega)) (br_t rfl ⟨rfl, I'⟩))))))
      refine br_f (ne 5 (by omega) e5) ?_
      by_cases e6 : j = 6
      · subst e6; exact br_t rfl (br_f (ne 0 (by omega) (by omega)) (br_f (ne 1 (by omega) (by omega)) (br_f (ne 2 (by omega) (by omega)) (br_f (ne 3 (by omega) (by omega)) (br_f (ne 4 (by omega) (by omega)) (br_f (ne 5 (by omega) (by omega)) (br_t rfl ⟨rfl, I'⟩)))))))
      refine br_f (ne 6 (by omega) e6) ?_
      have e7 : j = 7 := by omega
      subst e7
      refine br_t rfl (br_f (ne 0 (by omega) (by omega)) (br_f (ne 1 (by omega) (by omega)) (br_f (ne 2 (by omega) (by omega)) (br_f (ne 3 (by omega) (by omega)) (br_f (ne 4 (by omega) (by omega)) (br_f (ne 5 (by omega) (by omega)) (br_f (ne 6 (by omega) (by omega)) (br_t rfl ?_))))))))
      refine zy_missing (b := 112) (q := ar) h3.1.1 (fun t ht => by rw [na_at, h3.1.2.2.1 t ht]) (by omega) ?_ ⟨rfl, I'⟩
      rw [zr_TY h3 (by omega)]
      have := zr_SY h4 (b := 0) (n := sl) (by omega)
      rw [this]
      exact h7.2.1
theorem i_vc_cell {k : Nat} {u : SX} {v : SY} (I : i_Rel k u v) (hk : k + 5 ≤ 2564) (v1 : Int32) (v2 : Int32) (v3 : Int32) (v4 : Int32) : wpX_cell (fun r => wpY_cell (fun r' => r' = r ∧ i_Rel (k + 5) u v) v v1 v2 v3 v4) u v1 v2 v3 v4 := by
  have I' := i_up I
  revert I'
  refine zr_el (Q := fun u v => i_Rel (k + 5) u v → wpX_cell (fun r => wpY_cell (fun r' => r' = r ∧ i_Rel (k + 5) u v) v v1 v2 v3 v4) u v1 v2 v3 v4) ?_ I
  intro c1 c2 c3 c4 c5 c6 c7 df cap ph R P L os om sl sm ar TX en ct ln pc sh kp TY A len pa dg lvl hd gt ft pt G S TX0 en0 TY0 ab gr rl bd lk rec bi h1 h2 h3 h4 h5 h6 h7 h8 h9 I'
  have hP := h8.2.1
  have hR := h5.1
  have hlen8 : ∀ i, i < 14 → len i ≤ 8 := by
    intro i hi
    by_cases a : i < 2 * R
    · have u := h5.2.1 (i / 2) (by omega)
      have : i = 2 * (i / 2) ∨ i = 2 * (i / 2) + 1 := by omega
      rcases this with e | e
      · rw [e]; exact u.1
      · rw [e]; exact u.2.1
    · by_cases b : 2 * R + 2 ≤ i
      · rw [h5.2.2 i b hi]; omega
      · have : i = 2 * R ∨ i = 2 * R + 1 := by omega
        rcases h6.2.2 with ⟨_, b1, b2, _⟩ | ⟨_, b1, _, _, _, b2, _⟩
        · rcases this with e | e
          · rw [e]; omega
          · rw [e, b1]; omega
        · rcases this with e | e
          · rw [e]; exact b1
          · rw [e]; omega
  -- both sides behind kind and side
  have core : ∀ kd sd : Nat, (kd = 0 ∨ kd = 1) → (sd = 0 ∨ sd = 1) → ∀ F : (Int32 → Prop) → Prop, (∀ post, wY_cell_18 post (nI kd) v2 (nI sd) v4 (nI cap) (nI ph) (nI R) (nI P) (nI L) (nI sl) (na_F TY) (na_F A) (na_F len) (na_F pa) rec (na_F dg) (na_F lvl) bi (na_F hd) (na_F gt) (na_F ft) (na_F pt) → F post) → wX_cell_20 (fun r => F (fun r' => r' = r ∧ i_Rel (k + 5) (c1, c2, c3, c4, c5, c6, c7, nI cap, nI ph, nI R, nI P, nI L, df, nI os, nI om, nI sl, nI sm, na_F TX, na_F en, na_F ct, na_F ln, na_F pc, ab, gr, rl, na_F ar, na_F sh, na_F kp, bd, lk, rec) (nI cap, nI ph, nI R, nI P, nI L, nI sl, na_F TY, na_F A, na_F len, na_F pa, rec, na_F dg, na_F lvl, bi, na_F hd, na_F gt, na_F ft, na_F pt))) (nI kd) v2 (nI sd) v4 c1 c2 c3 c4 c5 c6 c7 (nI cap) (nI ph) (nI R) (nI P) (nI L) df (nI os) (nI om) (nI sl) (nI sm) (na_F TX) (na_F en) (na_F ct) (na_F ln) (na_F pc) ab gr rl (na_F ar) (na_F sh) (na_F kp) bd lk rec := by
    intro kd sd hkd hsd F hF
    -- the index
    by_cases a1 : v2 < 0
    · rcases hkd with e | e <;> subst e
      · exact br_t rfl (br_t a1 (hF _ (br_t a1 ⟨rfl, I'⟩)))
      · exact br_f (by decide) (br_t a1 (hF _ (br_t a1 ⟨rfl, I'⟩)))
    obtain ⟨ix, hix, rfl⟩ := nI_of a1
    -- one text of n tokens, at bx and by
    have text : ∀ (tx n bx by_ : Nat), tx < 30 → n ≤ 8 → bx = tx * 8 → by_ + 8 ≤ 192 → ln tx = n → (∀ i, i < n → TX (bx + i) = TY (by_ + i)) →
        ∀ Q : (Int32 → Prop) → Prop, (∀ post, (¬ v4 < 0 → wY_cell_90 post v4 (nI by_) (nI n) (nI cap) (nI ph) (nI R) (nI P) (nI L) (nI sl) (na_F TY) (na_F A) (na_F len) (na_F pa) rec (na_F dg) (na_F lvl) bi (na_F hd) (na_F gt) (na_F ft) (na_F pt)) → (v4 < 0 → post (-1)) → Q post) →
        ∀ z0 : Int32, z0 * 2 + nI sd = nI tx → wX_cell_63 (fun r => Q (fun r' => r' = r ∧ i_Rel (k + 5) (c1, c2, c3, c4, c5, c6, c7, nI cap, nI ph, nI R, nI P, nI L, df, nI os, nI om, nI sl, nI sm, na_F TX, na_F en, na_F ct, na_F ln, na_F pc, ab, gr, rl, na_F ar, na_F sh, na_F kp, bd, lk, rec) (nI cap, nI ph, nI R, nI P, nI L, nI sl, na_F TY, na_F A, na_F len, na_F pa, rec, na_F dg, na_F lvl, bi, na_F hd, na_F gt, na_F ft, na_F pt))) (nI sd) v4 z0 c1 c2 c3 c4 c5 c6 c7 (nI cap) (nI ph) (nI R) (nI P) (nI L) df (nI os) (nI om) (nI sl) (nI sm) (na_F TX) (na_F en) (na_F ct) (na_F ln) (na_F pc) ab gr rl (na_F ar) (na_F sh) (na_F kp) bd lk rec := by
      intro tx n bx by_ t1 t2 t3 t4 t5 t6 Q hQ z0 ez
      refine nm_r (e' := nI tx) ez ?_
      by_cases a4 : v4 < 0
      · exact br_t a4 (hQ _ (fun z => absurd a4 z) (fun _ => ⟨rfl, I'⟩))
      · obtain ⟨ps, hps, e4⟩ := nI_of a4
        refine br_f a4 ⟨vp_in_nI (by omega) (by omega), ?_⟩
        rw [nI_clamp (n := tx) (by omega), na_at, t5, e4]
        rw [e4] at hQ a4
        by_cases a5 : ps < n
        · have i1 : nI tx * 8 + nI ps = nI (tx * 8 + ps) := by rw [← nI_add, ← pk_mul]; rfl
          refine br_t (nI_lt a5 (by omega)) ⟨pk_in (tx * 8 + ps) 320 (by omega) i1, ?_⟩
          rw [i1, nI_clamp (by omega), na_at]
          refine hQ _ (fun _ => br_f (nI_ge a5 (by omega)) ⟨pk_in (by_ + ps) 192 (by omega) (nI_add by_ ps), ?_, I'⟩) (fun z => absurd z a4)
          rw [nI_add, nI_clamp (by omega), na_at, ← t3, t6 ps a5]
        · exact br_f (nI_nlt (by omega) (by omega)) (hQ _ (fun _ => br_t (nI_le (by omega) (by omega)) ⟨rfl, I'⟩) (fun z => absurd z a4))
    rcases hkd with e | e <;> subst e
    · -- a rule
      refine br_t rfl (br_f a1 ?_)
      rw [show nI R + 1 = nI (R + 1) from nI_1 R]
      by_cases a2 : ix < R + 1
      · refine br_t (nI_lt a2 (by omega)) (br_t rfl ?_)
        refine text (2 * ix + sd) (len (2 * ix + sd)) (16 * ix + 8 * sd) (16 * ix + 8 * sd) (by omega) (hlen8 _ (by omega)) (by omega) (by omega) (h4.2.2.2.2.2 _ (by omega)) (fun i hi => ?_) F ?_ (nI ix) (by rw [show 2 * ix + sd = ix * 2 + sd by omega, ← nI_add, ← pk_mul]; rfl)
        · have := hlen8 (2 * ix + sd) (by omega)
          rw [h2.1.2.1 _ (by omega), h4.1 _ (by omega), h3.1.2.1 _ (by omega), h4.2.2.1 _ (by omega)]
        · intro post q1 q2
          refine hF _ ?_
          refine br_f a1 ?_
          by_cases a4 : v4 < 0
          · exact br_f (fun z => Int32.not_lt.mpr z a4) (q2 a4)
          · refine br_t (Int32.not_lt.mp a4) (br_t rfl (br_t (nI_le (by omega) (by omega)) ?_))
            refine zy_place0 ?_
            have i2 : (2 : Int32) * nI ix + nI sd = nI (2 * ix + sd) := by rw [← nI_add, ← pk_mul]; rfl
            refine br_t rfl ⟨pk_in (2 * ix + sd) 14 (by omega) i2, ?_⟩
            rw [i2, nI_clamp (by omega), na_at]
            exact q1 a4
      · refine br_f (nI_nlt (by omega) hix) (hF _ (br_f a1 (br_c (fun _ => br_t rfl (br_f (nI_ge (by omega) hix) ⟨rfl, I'⟩)) (fun _ => ⟨rfl, I'⟩))))
    · -- a pair
      refine br_f (by decide) (br_f a1 ?_)
      by_cases a2 : ix < P
      · refine br_t (nI_lt a2 (by omega)) (br_f (by decide) ?_)
        obtain ⟨r, i, q1, q2, q3, q4, q5, q6, q7, q8, q9, q10⟩ := zr_pair (p := ix) h5 (h8.2.2.1 ix a2)
        obtain ⟨s1, s2, s3⟩ := h8.2.2.2.1 ix a2
        obtain ⟨o1, o2, o3, o4, o5, o6, o7, o8⟩ := s1
        obtain ⟨u1, u2, u3, u4, u5, u6, u7, u8⟩ := h5.2.1 r q1
        have l1 : (zr_LL G len r).length = len (2 * r) := tx_len _ _ _
        have ez : ∀ sd, sd < 2 → ((7 : Int32) + nI ix) * 2 + nI sd = nI ((7 + ix) * 2 + sd) := fun sd _ => by rw [← nI_add, ← pk_mul, ← nI_add]; rfl
        rcases hsd with e | e <;> subst e
        · -- left
          refine text ((7 + ix) * 2) (len (2 * r)) ((7 + ix) * 16) (16 * r) (by omega) u1 (by omega) (by omega) (by rw [s2, q5, l1]) (fun j hj => ?_) F ?_ (7 + nI ix) (ez 0 (by omega))
          · rw [h2.1.2.1 _ (by omega), h3.1.2.1 _ (by omega), h4.2.2.1 _ (by omega)]
            rw [q5, l1] at o1
            have := (tx_eq (len (2 * r)) ((7 + ix) * 16) (16 * r)).mp (o1.trans rfl) j hj
            exact this
          · intro post q1' q2'
            refine hF _ ?_
            refine br_f a1 ?_
            by_cases a4 : v4 < 0
            · exact br_f (fun z => Int32.not_lt.mpr z a4) (q2' a4)
            · refine br_t (Int32.not_lt.mp a4) (br_f (by decide) (br_t (nI_lt a2 (by omega)) ?_))
              refine zy_placeL (q := pa ix) (by omega) (by omega) rfl ?_
              rw [q4, show r * 16 = 16 * r from Nat.mul_comm _ _]
              refine br_f (by decide) ?_
              refine zy_end0 (q := ar) (n := len (2 * r)) h3.1.1 (fun t ht => by rw [na_at, h3.1.2.2.1 t ht]) (fd_A3 h1.1) (by omega) ?_ ?_
              · rw [zr_TY h3 (by omega), zr_GY h4 (by omega)]
                exact u3
              · rw [pk_sub (by omega), show 16 * r + len (2 * r) - 16 * r = len (2 * r) by omega]
                exact q1' a4
        · -- right
          refine text ((7 + ix) * 2 + 1) (tx_z ar G (pa ix)) ((7 + ix) * 16 + 8) (pa ix) (by omega) q10 (by omega) (by omega) (by rw [s3, q7]) (fun j hj => ?_) F ?_ (7 + nI ix) (ez 1 (by omega))
          · rw [h2.1.2.1 _ (by omega), h3.1.2.1 _ (by omega), h4.2.2.1 _ (by omega)]
            rw [q7] at o2
            have := (tx_eq (tx_z ar G (pa ix)) ((7 + ix) * 16 + 8) (pa ix)).mp (o2.trans rfl) j hj
            exact this
          · intro post q1' q2'
            refine hF _ ?_
            refine br_f a1 ?_
            by_cases a4 : v4 < 0
            · exact br_f (fun z => Int32.not_lt.mpr z a4) (q2' a4)
            · refine br_t (Int32.not_lt.mp a4) (br_f (by decide) (br_t (nI_lt a2 (by omega)) ?_))
              refine zy_placeR (q := pa ix) (by omega) rfl ?_
              refine br_f (by decide) ?_
              refine zy_end0 (q := ar) (n := tx_z ar G (pa ix)) h3.1.1 (fun t ht => by rw [na_at, h3.1.2.2.1 t ht]) (fd_A3 h1.1) (by omega) ?_ ?_
              · rw [zr_TY h3 (by omega), zr_GY h4 (by omega)]
                exact q6
              · rw [pk_sub (by omega), show pa ix + tx_z ar G (pa ix) - pa ix = tx_z ar G (pa ix) by omega]
                exact q1' a4
      · refine br_f (nI_nlt (by omega) hix) (hF _ (br_f a1 (br_c (fun _ => br_f (by decide) (br_f (nI_nlt (by omega) hix) ⟨rfl, I'⟩)) (fun _ => ⟨rfl, I'⟩))))
  by_cases k0 : v1 = 0
  · subst k0
    refine br_t rfl ?_
    by_cases s0 : v3 = 0
    · subst s0
      refine br_t rfl ?_
      exact core 0 0 (Or.inl rfl) (Or.inl rfl) (fun post => wpY_cell post (nI cap, nI ph, nI R, nI P, nI L, nI sl, na_F TY, na_F A, na_F len, na_F pa, rec, na_F dg, na_F lvl, bi, na_F hd, na_F gt, na_F ft, na_F pt) (nI 0) v2 (nI 0) v4) (fun post h => br_t rfl (br_t rfl h))
    · refine br_f s0 ?_
      by_cases s1 : v3 = 1
      · subst s1
        refine br_t rfl ?_
        exact core 0 1 (Or.inl rfl) (Or.inr rfl) (fun post => wpY_cell post (nI cap, nI ph, nI R, nI P, nI L, nI sl, na_F TY, na_F A, na_F len, na_F pa, rec, na_F dg, na_F lvl, bi, na_F hd, na_F gt, na_F ft, na_F pt) (nI 0) v2 (nI 1) v4) (fun post h => br_t rfl (br_f (by decide) (br_t rfl h)))
      · exact br_f s1 (br_t rfl (br_f s0 (br_f s1 ⟨rfl, I'⟩)))
  · refine br_f k0 ?_
    by_cases k1 : v1 = 1
    · subst k1
      refine br_t rfl ?_
      by_cases s0 : v3 = 0
      · subst s0
        refine br_t rfl ?_
        exact core 1 0 (Or.inr rfl) (Or.inl rfl) (fun post => wpY_cell post (nI cap, nI ph, nI R, nI P, nI L, nI sl, na_F TY, na_F A, na_F len, na_F pa, rec, na_F dg, na_F lvl, bi, na_F hd, na_F gt, na_F ft, na_F pt) (nI 1) v2 (nI 0) v4) (fun post h => br_f (by decide) (br_t rfl (br_t rfl h)))
      · refine br_f s0 ?_
        by_cases s1 : v3 = 1
        · subst s1
          refine br_t rfl ?_
          exact core 1 1 (Or.inr rfl) (Or.inr rfl) (fun post => wpY_cell post (nI cap, nI ph, nI R, nI P, nI L, nI sl, na_F TY, na_F A, na_F len, na_F pa, rec, na_F dg, na_F lvl, bi, na_F hd, na_F gt, na_F ft, na_F pt) (nI 1) v2 (nI 1) v4) (fun post h => br_f (by decide) (br_t rfl (br_f (by decide) (br_t rfl h))))
        · exact br_f s1 (br_f (by decide) (br_t rfl (br_f s0 (br_f s1 ⟨rfl, I'⟩))))
    · exact br_f k1 (br_f k0 (br_f k1 ⟨rfl, I'⟩))
end
section
/-! a line more -/
theorem wk_lnlt {rec : Nat → Int32} {L l j : Nat} {d f p : Int32} (hl : l < L) (hj : j < 3) : wk_ln rec L d f p (l * 3 + j) = rec (l * 3 + j) := by
  unfold wk_ln
  rw [pk_un (by omega), pk_un (by omega), pk_un (by omega)]
theorem wk_ln0 {rec : Nat → Int32} {L : Nat} {d f p : Int32} : wk_ln rec L d f p (L * 3) = d := by
  unfold wk_ln
  rw [pk_un (by omega), pk_un (by omega), pk_us]
theorem wk_ln1 {rec : Nat → Int32} {L : Nat} {d f p : Int32} : wk_ln rec L d f p (L * 3 + 1) = f := by
  unfold wk_ln
  rw [pk_un (by omega), pk_us]
theorem wk_ln2 {rec : Nat → Int32} {L : Nat} {d f p : Int32} : wk_ln rec L d f p (L * 3 + 2) = p := by
  unfold wk_ln
  rw [pk_us]
theorem rm_ln {P L : Nat} {rec : Nat → Int32} {d f p : Int32} : ∀ l, l ≤ L → rm_v P (wk_ln rec L d f p) l = rm_v P rec l := by
  intro l
  induction l with
  | zero => intro _; rfl
  | succ l ih =>
    intro hl
    show rm_v P (wk_ln rec L d f p) l &&& (wk_ln rec L d f p (l * 3) ^^^ (-nI 1)) = rm_v P rec l &&& (rec (l * 3) ^^^ (-nI 1))
    rw [ih (by omega)]
    have := wk_lnlt (rec := rec) (d := d) (f := f) (p := p) (show l < L by omega) (show 0 < 3 by omega)
    rw [Nat.add_zero] at this
    rw [this]
theorem zr_9a {ar : Nat → Nat} {P L f o : Nat} {rec : Nat → Int32} {d : Int32} (hP : P ≤ 8) (h : zr_9 ar P L rec) (hd : d ≠ 0) (hs : ∀ i, i < 32 → bt d i = true → bt (rm_v P rec L) i = true) (hf : fd_L ar f) (ho : o < 24) : zr_9 ar P (L + 1) (wk_ln rec L d (nI f) (nI (pl_T o))) := by
  intro l hl
  by_cases e : l = L
  · subst e
    refine ⟨⟨?_, ⟨f, hf, wk_ln1⟩, ⟨o, ho, wk_ln2⟩⟩, ?_⟩
    · rw [wk_ln0]
      have hex : ∃ i, i < 32 ∧ bt d i = true := by
        apply Classical.byContradiction
        intro hn
        apply hd
        apply b_ext
        intro i hi
        rw [b_0]
        cases hb : bt d i with
        | false => rfl
        | true => exact absurd ⟨i, hi, hb⟩ hn
      obtain ⟨i, hi1, hi2⟩ := pk_least (fun i => i < 32 ∧ bt d i = true) hex
      have hb := rm_bits hP l i hi1.1 (hs i hi1.1 hi1.2)
      refine ⟨i, hb, by omega, hi1.2, fun j hj => ?_⟩
      cases hbj : bt d j with
      | false => rfl
      | true => exact absurd ⟨by omega, hbj⟩ (hi2 j hj)
    · rw [wk_ln0, rm_ln l (Nat.le_refl _)]
      exact hs
  · have hlt : l < L := by omega
    obtain ⟨⟨a, b, c⟩, g⟩ := h l hlt
    have e0 := wk_lnlt (rec := rec) (d := d) (f := nI f) (p := nI (pl_T o)) hlt (show 0 < 3 by omega)
    have e1 := wk_lnlt (rec := rec) (d := d) (f := nI f) (p := nI (pl_T o)) hlt (show 1 < 3 by omega)
    have e2 := wk_lnlt (rec := rec) (d := d) (f := nI f) (p := nI (pl_T o)) hlt (show 2 < 3 by omega)
    rw [Nat.add_zero] at e0
    refine ⟨⟨by rw [e0]; exact a, by rw [e1]; exact b, by rw [e2]; exact c⟩, ?_⟩
    rw [e0, rm_ln l (by omega)]
    exact g
theorem zr_8L {ar G TX0 en0 ln len pa : Nat → Nat} {R P ph L L' os : Nat} {lk : Nat → Int32} (hph : ph = 1) (h : zr_8 ar G TX0 en0 ln len pa R P ph L os lk) : zr_8 ar G TX0 en0 ln len pa R P ph L' os lk := by
  obtain ⟨a, b, c, d, e⟩ := h
  refine ⟨?_, b, c, d, e⟩
  rcases a with ⟨a, _⟩ | a
  · omega
  · exact Or.inr a
theorem zr_legal (ar : Nat → Nat) (x : Int32) : (∃ f, x = nI f ∧ fd_L ar f) ∨ (∀ f, x = nI f → f < 2 ^ 31 → ¬ fd_L ar f) := by
  by_cases h : ∃ f, x = nI f ∧ fd_L ar f
  · exact Or.inl h
  · exact Or.inr fun f e _ hL => h ⟨f, e, hL⟩
theorem i_vc_note {k : Nat} {u : SX} {v : SY} (I : i_Rel k u v) (hk : k + 5 ≤ 2564) (v1 : Int32) (v2 : Int32) (v3 : Int32) : wpX_note (fun r u' => wpY_note (fun r' v' => r' = r ∧ i_Rel (k + 5) u' v') v v1 v2 v3) u v1 v2 v3 := by
  refine zr_el (Q := fun u v => wpX_note (fun r u' => wpY_note (fun r' v' => r' = r ∧ i_Rel (k + 5) u' v') v v1 v2 v3) u v1 v2 v3) ?_ I
  intro c1 c2 c3 c4 c5 c6 c7 df cap ph R P L os om sl sm ar TX en ct ln pc sh kp TY A len pa dg lvl hd gt ft pt G S TX0 en0 TY0 ab gr rl bd lk rec bi h1 h2 h3 h4 h5 h6 h7 h8 h9
  have hP := h8.2.1
  have hL := rm_L8 hP h9
  have I' : i_Rel (k + 5) (c1, c2, c3, c4, c5, c6, c7, nI cap, nI ph, nI R, nI P, nI L, df, nI os, nI om, nI sl, nI sm, na_F TX, na_F en, na_F ct, na_F ln, na_F pc, ab, gr, rl, na_F ar, na_F sh, na_F kp, bd, lk, rec) (nI cap, nI ph, nI R, nI P, nI L, nI sl, na_F TY, na_F A, na_F len, na_F pa, rec, na_F dg, na_F lvl, bi, na_F hd, na_F gt, na_F ft, na_F pt) := zr_in h1 h2 h3 h4 h5 h6 h7 h8 h9
  have hqX : ∀ t, t < 8 → na_F ar t = nI (ar t) := fun t _ => rfl
  have hqY : ∀ t, t < 8 → na_F A t = nI (ar t) := fun t ht => by rw [na_at, h3.1.2.2.1 t ht]
  rcases zr_phase h8 with hph | hph
  · subst hph
    exact br_f (by decide) (br_t rfl ⟨rfl, I'⟩)
  · subst hph
    refine br_t rfl ?_
    by_cases a1 : v1 < 1
    · exact br_t a1 (br_f (by decide) (br_t a1 ⟨rfl, I'⟩))
    · refine br_f a1 ?_
      refine zx_remaining hL ?_
      have yrem : ∀ (r : Int32) (u' : SX), ((v1 &&& (rm_v P rec L ^^^ (-1)) = 0 → wpY_legalFilter (fun r_23 => (((r_23 = 0 → (((-1 : Int32) = r ∧ i_Rel (k + 5) u' (nI cap, nI 1, nI R, nI P, nI L, nI sl, na_F TY, na_F A, na_F len, na_F pa, rec, na_F dg, na_F lvl, bi, na_F hd, na_F gt, na_F ft, na_F pt)))) ∧ (¬ r_23 = 0 → (wpY_legalPrecedence (fun r_43 => (((r_43 = 0 → (((-1 : Int32) = r ∧ i_Rel (k + 5) u' (nI cap, nI 1, nI R, nI P, nI L, nI sl, na_F TY, na_F A, na_F len, na_F pa, rec, na_F dg, na_F lvl, bi, na_F hd, na_F gt, na_F ft, na_F pt)))) ∧ (¬ r_43 = 0 → (wpY_addLine (fun r' v' => r' = r ∧ i_Rel (k + 5) u' v') (nI cap, nI 1, nI R, nI P, nI L, nI sl, na_F TY, na_F A, na_F len, na_F pa, rec, na_F dg, na_F lvl, bi, na_F hd, na_F gt, na_F ft, na_F pt) v1 v2 v3))))) (nI cap, nI 1, nI R, nI P, nI L, nI sl, na_F TY, na_F A, na_F len, na_F pa, rec, na_F dg, na_F lvl, bi, na_F hd, na_F gt, na_F ft, na_F pt) v3))))) (nI cap, nI 1, nI R, nI P, nI L, nI sl, na_F TY, na_F A, na_F len, na_F pa, rec, na_F dg, na_F lvl, bi, na_F hd, na_F gt, na_F ft, na_F pt) v2) ∧ (¬ v1 &&& (rm_v P rec L ^^^ (-1)) = 0 → ((-1 : Int32) = r ∧ i_Rel (k + 5) u' (nI cap, nI 1, nI R, nI P, nI L, nI sl, na_F TY, na_F A, na_F len, na_F pa, rec, na_F dg, na_F lvl, bi, na_F hd, na_F gt, na_F ft, na_F pt)))) →
          wpY_note (fun r' v' => r' = r ∧ i_Rel (k + 5) u' v') (nI cap, nI 1, nI R, nI P, nI L, nI sl, na_F TY, na_F A, na_F len, na_F pa, rec, na_F dg, na_F lvl, bi, na_F hd, na_F gt, na_F ft, na_F pt) v1 v2 v3 := by
        intro r u' h
        refine br_f (by decide) (br_f a1 ?_)
        exact zy_remaining hL h
      by_cases a2 : v1 &&& (rm_v P rec L ^^^ (-1)) = 0
      · refine br_t a2 ?_
        have hsub := zb_sub.mp a2
        rcases zr_legal ar v2 with ⟨f, ef, hf⟩ | hnf
        · refine zx_legal (ar := ar) h1.1 hqX ?_ ?_
          rotate_left
          · intro hno
            exact absurd hf (hno f ef (by have := hf.1; omega))
          intro _ _ _
          refine br_f (by decide) ?_
          by_cases hp : ∃ o, o < 24 ∧ v3 = nI (pl_T o)
          · obtain ⟨o, ho, eo⟩ := hp
            refine zx_precIx h1.2.2.2.1 ?_ ?_
            rotate_left
            · intro hno
              exact absurd eo (hno o ho)
            intro o' ho' _
            refine br_t (nI_pos' (by omega)) ?_
            -- room
            have hne : v1 ≠ 0 := by
              intro e
              rw [e] at a1
              exact a1 (by decide)
            have hex : ∃ i, i < 32 ∧ bt v1 i = true := by
              apply Classical.byContradiction
              intro hn
              apply hne
              apply b_ext
              intro i hi
              rw [b_0]
              cases hb : bt v1 i with
              | false => rfl
              | true => exact absurd ⟨i, hi, hb⟩ hn
            obtain ⟨i, hi, hb⟩ := hex
            have hL7 := rm_L7 hP h9 hi (hsub i hi hb)
            subst ef
            subst eo
            refine zx_addLine hL7 ?_
            have I2 : i_Rel (k + 5) (c1, c2, c3, c4, c5, c6, c7, nI cap, nI 1, nI R, nI P, nI (L + 1), df, nI os, nI om, nI sl, nI sm, na_F TX, na_F en, na_F ct, na_F ln, na_F pc, ab, gr, rl, na_F ar, na_F sh, na_F kp, bd, lk, wk_ln rec L v1 (nI f) (nI (pl_T o))) (nI cap, nI 1, nI R, nI P, nI (L + 1), nI sl, na_F TY, na_F A, na_F len, na_F pa, wk_ln rec L v1 (nI f) (nI (pl_T o)), na_F dg, na_F lvl, bi, na_F hd, na_F gt, na_F ft, na_F pt) :=
              zr_in h1 h2 h3 h4 h5 h6 h7 (zr_8L rfl h8) (zr_9a hP h9 hne hsub hf ho)
            have es : nI (L + 1) - 1 = nI L := nI_pred L
            show wpY_note (fun r' v' => r' = nI (L + 1) - 1 ∧ i_Rel (k + 5) _ v') _ _ _ _
            rw [es]
            refine yrem _ _ (br_t a2 ?_)
            refine zy_legal (ar := ar) h1.1 hqY ?_ ?_
            rotate_left
            · intro hno
              exact absurd hf (hno f rfl (by have := hf.1; omega))
            intro _ _ _
            refine br_f (by decide) ?_
            refine zy_legalP ?_ ?_
            rotate_left
            · intro hno
              exact absurd rfl (hno o ho)
            intro _ _ _
            refine br_f (by decide) ?_
            refine zy_addLine hL7 ⟨rfl, I2⟩
          · have hp' : ∀ o, o < 24 → v3 ≠ nI (pl_T o) := fun o ho e => hp ⟨o, ho, e⟩
            refine zx_precIx h1.2.2.2.1 ?_ ?_
            · intro o ho e
              exact absurd e (hp' o ho)
            intro _
            refine br_f (by decide) ?_
            refine yrem _ _ (br_t a2 ?_)
            refine zy_legal (ar := ar) h1.1 hqY ?_ ?_
            rotate_left
            · intro hno
              exact absurd hf (hno f ef (by have := hf.1; omega))
            intro _ _ _
            refine br_f (by decide) ?_
            refine zy_legalP ?_ ?_
            · intro o ho e
              exact absurd e (hp' o ho)
            intro _
            exact br_t rfl ⟨rfl, I'⟩
        · refine zx_legal (ar := ar) h1.1 hqX ?_ ?_
          · intro f e hL
            exact absurd hL (hnf f e (by have := hL.1; omega))
          intro _
          refine br_t rfl ?_
          refine yrem _ _ (br_t a2 ?_)
          refine zy_legal (ar := ar) h1.1 hqY ?_ ?_
          · intro f e hL
            exact absurd hL (hnf f e (by have := hL.1; omega))
          intro _
          exact br_t rfl ⟨rfl, I'⟩
      · exact br_f a2 (yrem _ _ (br_f a2 ⟨rfl, I'⟩))
end
section
theorem zc_cl (x : Int32) (lo hi : Nat) (h : lo ≤ hi) (hh : hi < 2 ^ 31) : ∃ a, lo ≤ a ∧ a ≤ hi ∧ ∀ F : Int32 → Prop, F (nI a) → ((nI lo ≤ x → ((x ≤ nI hi → F x) ∧ (¬ x ≤ nI hi → F (nI hi)))) ∧ (¬ nI lo ≤ x → F (nI lo))) := by
  by_cases a1 : nI lo ≤ x
  · have hn : ¬ x < 0 := by
      intro z
      rw [Int32.lt_iff_toInt_lt] at z
      rw [Int32.le_iff_toInt_le, nI_toInt (by omega)] at a1
      have e0 : (0 : Int32).toInt = 0 := by decide
      omega
    obtain ⟨j, hj, rfl⟩ := nI_of hn
    rw [nI_leI (by omega) hj] at a1
    by_cases a2 : j ≤ hi
    · exact ⟨j, a1, a2, fun F hF => br_t (nI_le a1 hj) (br_t (nI_le a2 hh) hF)⟩
    · exact ⟨hi, h, Nat.le_refl _, fun F hF => br_t (nI_le a1 hj) (br_f (nI_ge (by omega) hj) hF)⟩
  · exact ⟨lo, Nat.le_refl _, h, fun F hF => br_f a1 hF⟩
section
variable {x_pairSlot x_subjectBase x_filteredLeft x_filteredRight x_scratch x_allOrders x_equalMark x_termCells x_phase x_ruleCount x_pairCount x_lineCount x_defined x_openSide x_openMissing x_subjectLength x_subjectMissing : Int32} {x_tok x_end x_cut x_length x_precedences x_above x_greater x_relation x_arity x_shape x_kept x_bound x_links x_lines : Nat → Int32}
theorem zx_clamp {post : Int32 → Prop} {x : Int32} {lo hi a : Nat} (h : ∀ F : Int32 → Prop, F (nI a) → ((nI lo ≤ x → ((x ≤ nI hi → F x) ∧ (¬ x ≤ nI hi → F (nI hi)))) ∧ (¬ nI lo ≤ x → F (nI lo)))) (hp : post (nI a)) : wpX_clamp post (x_pairSlot, x_subjectBase, x_filteredLeft, x_filteredRight, x_scratch, x_allOrders, x_equalMark, x_termCells, x_phase, x_ruleCount, x_pairCount, x_lineCount, x_defined, x_openSide, x_openMissing, x_subjectLength, x_subjectMissing, x_tok, x_end, x_cut, x_length, x_precedences, x_above, x_greater, x_relation, x_arity, x_shape, x_kept, x_bound, x_links, x_lines) x (nI lo) (nI hi) := h post hp
end
theorem gc_sub {C : Nat → Nat → Prop} {q c : Int32} {p : Nat} (h : gc_V C q p c) : ∀ a, a < 32 → bt c a = true → bt q a = true := by
  intro a ha hb
  have h1 := ((h a ha).mp hb).1
  unfold gr_R at h1
  cases h1 with
  | single z => exact z.2.1
  | tail _ z => exact z.2.1
theorem gc_nat {C : Nat → Nat → Prop} {P L p : Nat} {rec : Nat → Int32} {c : Int32} (hP : P ≤ 8) (h : gc_V C (rm_v P rec L) p c) : ∃ n, n < 256 ∧ c = nI n := by
  refine zb_nat c (k := 8) (by omega) (fun i h1 h2 => ?_)
  cases hb : bt c i with
  | false => rfl
  | true => exact absurd (rm_bits hP L i h2 (gc_sub h i h2 hb)) (by omega)
theorem gc_L7 {ar : Nat → Nat} {C : Nat → Nat → Prop} {P L p : Nat} {rec : Nat → Int32} {c : Int32} (hP : P ≤ 8) (h9 : zr_9 ar P L rec) (h : gc_V C (rm_v P rec L) p c) (hc : c ≠ 0) : L < 8 := by
  have hex : ∃ i, i < 32 ∧ bt c i = true := by
    apply Classical.byContradiction
    intro hn
    apply hc
    apply b_ext
    intro i hi
    rw [b_0]
    cases hb : bt c i with
    | false => rfl
    | true => exact absurd ⟨i, hi, hb⟩ hn
  obtain ⟨i, hi, hb⟩ := hex
  exact rm_L7 hP h9 hi (gc_sub h i hi hb)
theorem i_vc_step {k : Nat} {u : SX} {v : SY} (I : i_Rel k u v) (hk : k + 5 ≤ 2564) (v1 : Int32) : wpX_step (fun r u' => wpY_step (fun r' v' => r' = r ∧ i_Rel (k + 5) u' v') v v1) u v1 := by
  refine zr_el (Q := fun u v => wpX_step (fun r u' => wpY_step (fun r' v' => r' = r ∧ i_Rel (k + 5) u' v') v v1) u v1) ?_ I
  intro c1 c2 c3 c4 c5 c6 c7 df cap ph R P L os om sl sm ar TX en ct ln pc sh kp TY A len pa dg lvl hd gt ft pt G S TX0 en0 TY0 ab gr rl bd lk rec bi h1 h2 h3 h4 h5 h6 h7 h8 h9
  have hP := h8.2.1
  have hL := rm_L8 hP h9
  have hR := h5.1
  have hqX : ∀ t, t < 8 → na_F ar t = nI (ar t) := fun t _ => rfl
  -- the reference's component
  have ycomp : ∀ (p : Nat) (post : Int32 → SY → Prop), p < P → (∀ c ft pt, gc_V (ed_C ar G (zr_LP G len pa) (zr_RP ar G pa) R P) (rm_v P rec L) p c → (∀ k, ft k < 2) → (∀ k, pt k < 2) → post c (nI cap, nI ph, nI R, nI P, nI L, nI sl, na_F TY, na_F A, na_F len, na_F pa, rec, na_F dg, na_F lvl, bi, na_F hd, na_F gt, na_F ft, na_F pt)) → wpY_component post (nI cap, nI ph, nI R, nI P, nI L, nI sl, na_F TY, na_F A, na_F len, na_F pa, rec, na_F dg, na_F lvl, bi, na_F hd, na_F gt, na_F ft, na_F pt) (nI p) := by
    intro p post hp h
    refine br_f (nI_pos (by omega)) (br_t (nI_lt hp (by omega)) ?_)
    refine zy_remaining hL ?_
    refine zy_compW h1.1 (zr_wU h4 h5 h8) (zr_h112 h4 h5 h8) h3.1 (by omega) (fun a ha => ?_) h3.2.1 h3.2.2 (fun c' ft' pt' hc' hft' hpt' => ?_)
    · refine rm_bits hP L a ?_ ha
      apply Nat.lt_of_not_le
      intro z
      rw [b_big z] at ha
      exact absurd ha (by decide)
    · rw [zr_ed h5.1 h4] at hc'
      exact h c' ft' pt' hc' hft' hpt'
  unfold wpX_step wpX_component
  refine zx_isPair hP ?_ ?_
  rotate_left
  · intro hno
    refine br_t rfl (br_t rfl ?_)
    have I' : i_Rel (k + 5) (c1, c2, c3, c4, c5, c6, c7, nI cap, nI ph, nI R, nI P, nI L, df, nI os, nI om, nI sl, nI sm, na_F TX, na_F en, na_F ct, na_F ln, na_F pc, ab, gr, rl, na_F ar, na_F sh, na_F kp, bd, lk, rec) (nI cap, nI ph, nI R, nI P, nI L, nI sl, na_F TY, na_F A, na_F len, na_F pa, rec, na_F dg, na_F lvl, bi, na_F hd, na_F gt, na_F ft, na_F pt) := zr_in h1 h2 h3 h4 h5 h6 h7 h8 h9
    unfold wpY_step wpY_component
    rcases ix_pair v1 hP with ⟨p, hp, e⟩ | ⟨a, a'⟩
    · exact absurd e (hno p hp)
    · rcases a with a | ⟨a1, a2, a3⟩
      · exact br_t a (br_f (by decide) ⟨rfl, I'⟩)
      · exact br_f a1 (br_f a3 (br_f (by decide) ⟨rfl, I'⟩))
  intro p hp e
  subst e
  refine br_f (by decide) ?_
  have hph : ph = 1 := by
    rcases h8.1 with ⟨_, z, _⟩ | ⟨z, _⟩
    · omega
    · exact z
  have hC := h8.2.2.2.2 hph
  refine zx_remaining hL ?_
  refine zx_componentIn (by omega) hC.1 hC.2.1 hC.2.2 ?_
  intro c hc
  obtain ⟨n, hn, en1⟩ := gc_nat hP hc
  have cm1 : ¬ c = -1 := by rw [en1]; exact ni_negne (by omega)
  refine br_f cm1 ?_
  by_cases hc0 : c = 0
  · refine br_t hc0 ?_
    unfold wpY_step
    refine ycomp p _ hp ?_
    intro c' ft' pt' hc' hft' hpt'
    have ec : c' = c := gc_uniq hc' hc
    subst ec
    refine br_t (by rw [hc0]; decide) (br_t hc0 ⟨rfl, zr_in h1 h2 ⟨h3.1, hft', hpt'⟩ h4 h5 h6 h7 h8 h9⟩)
  · refine br_f hc0 ⟨1297, ?_⟩
    have hL7 := gc_L7 hP h9 hc hc0
    refine zx_search h1.1 hqX h1.2.2.2.2 h1.2.2.2.1 (zr_wT h4 h5 h8) hL7 ?_ ?_ 1296 1297 0 TX en ct gr rl sh kp (by omega) (by omega) h2.1 h2.2 (fun f' o' hf' => by omega)
    · intro f o d TX' en' ct' gr' rl' sh' kp' hso hmf hmo hdd hW' hs'
      unfold wpY_step
      refine ycomp p _ hp ?_
      intro c' ft' pt' hc' hft' hpt'
      have ec : c' = c := gc_uniq hc' hc
      subst ec
      refine br_t (by rw [en1]; exact nI_pos' (by omega)) (br_f hc0 ⟨1297, ?_⟩)
      refine zy_search h1.1 (zr_wU h4 h5 h8) hL7 ?_ ?_ 1296 1297 0 TY A dg lvl hd gt (by omega) (by omega) h3.1 (fun f' o' hf' => by omega)
      · intro f2 o2 d2 TY' A' dg' lvl' hd' gt' hso2 hmf2 hmo2 hd2 hWY
        have ef : f2 = f := by
          rcases Nat.lt_trichotomy f2 f with z | z | z
          · exact absurd hso2 (hmf f2 o2 z)
          · exact z
          · exact absurd hso (hmf2 f o z)
        subst ef
        have eo : o2 = o := by
          rcases Nat.lt_trichotomy o2 o with z | z | z
          · exact absurd hso2 (hmo o2 z)
          · exact z
          · exact absurd hso (hmo2 o z)
        subst eo
        have ed : d2 = d := wk_bu hd2 hdd
        subst ed
        obtain ⟨p0, hp0, hbp, hsp⟩ := hso.2.2.2
        have hdn : d2 ≠ 0 := by
          intro z
          have := (hdd p0 (by omega)).mpr ⟨hp0, hbp, hsp⟩
          rw [z, b_0] at this
          exact absurd this (by decide)
        exact ⟨rfl, zr_in h1 ⟨hW', hs'⟩ ⟨hWY, hft', hpt'⟩ h4 h5 h6 h7 (zr_8L hph h8) (zr_9a hP h9 hdn (fun i hi hb => gc_sub hc i hi ((hdd i hi).mp hb).2.1) hso.1 hso.2.1)⟩
      · intro TY' A' dg' lvl' hd' gt' hno hWY
        exact absurd hso (hno f o (by have := hso.1.1; omega))
    · intro TX' en' ct' gr' rl' sh' kp' hno hW' hs'
      unfold wpY_step
      refine ycomp p _ hp ?_
      intro c' ft' pt' hc' hft' hpt'
      have ec : c' = c := gc_uniq hc' hc
      subst ec
      refine br_t (by rw [en1]; exact nI_pos' (by omega)) (br_f hc0 ⟨1297, ?_⟩)
      refine zy_search h1.1 (zr_wU h4 h5 h8) hL7 ?_ ?_ 1296 1297 0 TY A dg lvl hd gt (by omega) (by omega) h3.1 (fun f' o' hf' => by omega)
      · intro f2 o2 d2 TY' A' dg' lvl' hd' gt' hso2 hmf2 hmo2 hd2 hWY
        exact absurd hso2 (hno f2 o2 (by have := hso2.1.1; omega))
      · intro TY' A' dg' lvl' hd' gt' hno2 hWY
        exact ⟨rfl, zr_in h1 ⟨hW', hs'⟩ ⟨hWY, hft', hpt'⟩ h4 h5 h6 h7 h8 h9⟩
theorem i_vc_check {k : Nat} {u : SX} {v : SY} (I : i_Rel k u v) (hk : k + 5 ≤ 2564) : wpX_check (fun r u' => wpY_check (fun r' v' => r' = r ∧ i_Rel (k + 5) u' v') v) u := by
  refine zr_el (Q := fun u v => wpX_check (fun r u' => wpY_check (fun r' v' => r' = r ∧ i_Rel (k + 5) u' v') v) u) ?_ I
  intro c1 c2 c3 c4 c5 c6 c7 df cap ph R P L os om sl sm ar TX en ct ln pc sh kp TY A len pa dg lvl hd gt ft pt G S TX0 en0 TY0 ab gr rl bd lk rec bi h1 h2 h3 h4 h5 h6 h7 h8 h9
  have hP := h8.2.1
  have hL := rm_L8 hP h9
  have hqX : ∀ t, t < 8 → na_F ar t = nI (ar t) := fun t _ => rfl
  rcases zr_phase h8 with hph | hph
  · subst hph
    exact br_f (by decide) (br_t rfl ⟨rfl, zr_in (ph := 0) h1 h2 h3 h4 h5 h6 h7 h8 h9⟩)
  · have hC := h8.2.2.2.2 hph
    subst hph
    refine br_t rfl (nm_e ⟨L + 1, ?_⟩)
    refine zx_check h1.1 hqX h1.2.2.2.2 h1.2.2.2.1 (zr_wT h4 h5 h8) hC hL (fun l hl => (h9 l hl).1) L (L + 1) 0 (rm_v P rec 0) TX en ct gr rl sh kp (by omega) (by omega) h2.1 h2.2 ?_
    intro res TX' en' ct' gr' rl' sh' kp' hO hW' hs'
    refine br_f (by decide) (nm_e ⟨L + 1, ?_⟩)
    refine zy_check h1.1 (zr_wU h4 h5 h8) (zr_h112 h4 h5 h8) hL (fun l hl => (h9 l hl).1) L (L + 1) 0 (rm_v P rec 0) TY A dg lvl hd gt ft pt (by omega) (by omega) h3.1 h3.2.1 h3.2.2 (fun a ha => ?_) ?_
    · refine rm_bits hP 0 a ?_ ha
      apply Nat.lt_of_not_le
      intro z
      rw [b_big z] at ha
      exact absurd ha (by decide)
    · intro res2 TY' A' dg' lvl' hd' gt' ft' pt' hO2 hWY hft' hpt'
      rw [zr_ed h5.1 h4] at hO2
      have er : res2 = res := ck_det _ _ _ _ _ hO2 hO
      subst er
      exact ⟨rfl, zr_in (ph := 1) h1 ⟨hW', hs'⟩ ⟨hWY, hft', hpt'⟩ h4 h5 h6 h7 h8 h9⟩
theorem zr_mxS {ar G S TX0 en0 TX en ct sh kp TY0 ln len : Nat → Nat} {gr : Nat → Int32} {cap sl : Nat} (hcap : cap ≤ 32) (h2 : zr_2 TX0 en0 TX en ct sh kp gr) (h4 : zr_4 G S TX0 TY0 ln len) (h7 : zr_7 ar S en0 cap sl 0) : mx_S ar TX en S sl := by
  refine ⟨h2.1.1, fun i hi => ?_, by have := h7.1; omega, h7.2.1, fun j hj => ?_⟩
  · rw [h2.1.2.1 _ (by omega), h4.2.1 i hi]
  · have := h7.1
    rw [h2.1.2.2.1 _ (by omega)]
    exact h7.2.2.1 rfl j hj
theorem zr_myS {ar G S TX0 en0 TY0 TY A dg hd gt ft pt ln len : Nat → Nat} {cap sl : Nat} (hcap : cap ≤ 32) (h3 : zr_3 ar TY0 TY A dg hd gt ft pt) (h4 : zr_4 G S TX0 TY0 ln len) (h7 : zr_7 ar S en0 cap sl 0) : my_S ar TY S sl := by
  refine ⟨h3.1.1, fun i hi => ?_, by have := h7.1; omega, h7.2.1⟩
  rw [h3.1.2.1 _ (by omega), h4.2.2.2.1 i hi]
theorem rn_le {ar : Nat → Nat} {LL RR : Nat → List Nat} {R cap : Nat} : ∀ n S N res S' N', N ≤ cap → rn_O ar LL RR R cap n S N res S' N' → N' ≤ cap := by
  intro n
  induction n with
  | zero =>
    rintro S N res S' N' h ⟨_, _, e⟩
    omega
  | succ n ih =>
    rintro S N res S' N' h (⟨_, _, _, e⟩ | ⟨k, r, b, _, _, _, _, _, _, q⟩)
    · omega
    · rcases q with ⟨_, _, _, e⟩ | ⟨e, q⟩
      · omega
      · exact ih _ _ _ _ _ e q
theorem i_vc_run {k : Nat} {u : SX} {v : SY} (I : i_Rel k u v) (hk : k + 5 ≤ 2564) (v1 : Int32) : wpX_run (fun r u' => wpY_run (fun r' v' => r' = r ∧ i_Rel (k + 5) u' v') v v1) u v1 := by
  refine zr_el (Q := fun u v => wpX_run (fun r u' => wpY_run (fun r' v' => r' = r ∧ i_Rel (k + 5) u' v') v v1) u v1) ?_ I
  intro c1 c2 c3 c4 c5 c6 c7 df cap ph R P L os om sl sm ar TX en ct ln pc sh kp TY A len pa dg lvl hd gt ft pt G S TX0 en0 TY0 ab gr rl bd lk rec bi h1 h2 h3 h4 h5 h6 h7 h8 h9
  have hP := h8.2.1
  have hR := h5.1
  have hcap := h1.2.2.1
  have hsl := h7.1
  have hqX : ∀ t, t < 8 → na_F ar t = nI (ar t) := fun t _ => rfl
  have hqY : ∀ t, t < 8 → na_F A t = nI (ar t) := fun t ht => by rw [na_at, h3.1.2.2.1 t ht]
  have ymiss : ∀ post : Int32 → Prop, post (nI sm) → wpY_missing post (nI cap, nI ph, nI R, nI P, nI L, nI sl, na_F TY, na_F A, na_F len, na_F pa, rec, na_F dg, na_F lvl, bi, na_F hd, na_F gt, na_F ft, na_F pt) 112 (nI sl) := by
    intro post hp
    refine zy_missing (b := 112) (q := ar) h3.1.1 hqY (by omega) ?_ hp
    rw [zr_TY h3 (by omega)]
    have := zr_SY h4 (b := 0) (n := sl) (by omega)
    rw [this]
    exact h7.2.1
  by_cases hm : sm = 0
  · subst hm
    refine br_t rfl ?_
    obtain ⟨a, _, ha, hF⟩ := zc_cl v1 0 16 (by omega) (by omega)
    refine zx_clamp (lo := 0) (hi := 16) hF ?_
    refine ⟨a + 1, ?_⟩
    have hV : ∀ r, r < R → ∀ v, v ∈ zr_RR G len r → 4 ≤ v → v ∈ zr_LL G len r := fun r hr => (h5.2.1 r hr).2.2.2.2.2.1
    have lL : ∀ r, (zr_LL G len r).length = len (2 * r) := fun r => tx_len _ _ _
    have lR : ∀ r, (zr_RR G len r).length = len (2 * r + 1) := fun r => tx_len _ _ _
    have hLX : mx_L ar TX en R (zr_LL G len) := by
      refine ⟨hR, fun r hr => ?_⟩
      obtain ⟨u1, u2, u3, u4, u5, u6, u7, u8⟩ := h5.2.1 r hr
      have zl : tx_z ar G (16 * r) = len (2 * r) := tx_z_of u3 (by omega)
      have p1 : 0 < len (2 * r) := by have := tx_T_pos u3; rw [lL] at this; exact this
      refine ⟨by rw [lL]; exact u1, ?_, u3, ?_⟩
      · rw [lL, zr_TX h2 (by omega), zr_GX h4 (by omega), Nat.mul_comm r 16]
        rfl
      · rw [h2.1.2.2.1 _ (by omega), show r * 16 = 16 * r from Nat.mul_comm _ _, u7 _ (by omega) (by omega), zl, lL]
    have hRX : ∀ r, r < R → mx_R ar TX en r (zr_RR G len r) := by
      intro r hr
      obtain ⟨u1, u2, u3, u4, u5, u6, u7, u8⟩ := h5.2.1 r hr
      have zl : tx_z ar G (16 * r + 8) = len (2 * r + 1) := tx_z_of u4 (by omega)
      have p1 : 0 < len (2 * r + 1) := by have := tx_T_pos u4; rw [lR] at this; exact this
      refine ⟨by omega, by rw [lR]; exact u2, ?_, u4, ?_⟩
      · rw [lR, zr_TX h2 (by omega), zr_GX h4 (by omega), Nat.mul_comm r 16]
        rfl
      · rw [h2.1.2.2.1 _ (by omega), show r * 16 + 8 = 16 * r + 8 by omega, u8 _ (by omega) (by omega), zl, lR]
    have hLY : my_L ar TY (na_F len) R (zr_LL G len) := by
      refine ⟨hR, fun r hr => ?_⟩
      obtain ⟨u1, u2, u3, u4, u5, u6, u7, u8⟩ := h5.2.1 r hr
      refine ⟨by rw [lL]; exact u1, ?_, u3, by rw [na_at, lL]⟩
      rw [lL, zr_TY h3 (by omega), zr_GY h4 (by omega)]
      rfl
    have hRY : ∀ r, r < R → my_R ar TY (na_F len) r (zr_RR G len r) := by
      intro r hr
      obtain ⟨u1, u2, u3, u4, u5, u6, u7, u8⟩ := h5.2.1 r hr
      refine ⟨by omega, by rw [lR]; exact u2, ?_, u4, by rw [na_at, lR]⟩
      rw [lR, zr_TY h3 (by omega), zr_GY h4 (by omega)]
      rfl
    refine zx_run h1.1 hqX hLX hRX hV hcap ha a (a + 1) 0 S sl TX en bd (by omega) (by omega) (fun _ _ => rfl) (fun _ _ => rfl) (zr_mxS hcap h2 h4 h7) ?_
    intro res S' N' TX' en' bd' hO x1 x2 x3
    unfold wpY_run
    refine ymiss _ (br_t rfl ?_)
    refine hF (fun z => ∃ n38, wY_run_38 _ z n38 0 (nI cap) (nI ph) (nI R) (nI P) (nI L) (nI sl) (na_F TY) (na_F A) (na_F len) (na_F pa) rec (na_F dg) (na_F lvl) bi (na_F hd) (na_F gt) (na_F ft) (na_F pt)) ⟨a + 1, ?_⟩
    refine zy_run h1.1 hqY hLY hRY hV hcap ha a (a + 1) 0 S sl TY bi (by omega) (by omega) (fun _ _ => rfl) (zr_myS hcap h3 h4 h7) ?_
    intro res2 S2 N2 TY' bi' hO2 y1 y2
    obtain ⟨er, eS, eN⟩ := rn_det _ _ _ _ _ _ _ _ _ hO2 hO
    subst er
    subst eS
    subst eN
    have hN2 := rn_le _ _ _ _ _ _ (show sl ≤ cap by omega) hO2
    obtain ⟨w1, w2, w3, w4, w5, w6⟩ := h2.1
    obtain ⟨m1, m2, m3, m4, m5⟩ := x3
    obtain ⟨n1, n2, n3, n4⟩ := y2
    -- the new ghosts
    refine ⟨rfl, zr_in (sm := 0) (S := fun i => if i < 32 then S2 i else 0) (TX0 := fun k => if k < 240 then TX0 k else TX' k) (en0 := fun k => if k < 240 then en0 k else en' k) (TY0 := fun k => if k < 112 then TY0 k else TY' k) h1 ⟨⟨m1, fun j hj => ?_, fun j hj => ?_, w4, w5, w6⟩, h2.2⟩ ⟨⟨n1, fun j hj => ?_, h3.1.2.2⟩, h3.2⟩ ⟨fun j hj => ?_, fun i hi => ?_, fun j hj => ?_, fun i hi => ?_, h4.2.2.2.2⟩ ⟨h5.1, fun r hr => ?_, h5.2.2⟩ ?_ ⟨by omega, ?_, fun _ j hj => ?_, fun i => ?_⟩ ?_ h9⟩
    all_goals try dsimp only
    · by_cases c : j < 240
      · rw [if_pos c, x1 j c, w2 j (by omega)]
      · rw [if_neg c]
    · by_cases c : j < 240
      · rw [if_pos c, x2 j c, w3 j (by omega)]
      · rw [if_neg c]
    · by_cases c : j < 112
      · rw [if_pos c, y1 j c, h3.1.2.1 j (by omega)]
      · rw [if_neg c]
    · rw [if_pos (by omega)]
      exact h4.1 j hj
    · rw [if_neg (by omega), if_pos hi]
      exact m2 i hi
    · rw [if_pos hj]
      exact h4.2.2.1 j hj
    · rw [if_neg (by omega), if_pos hi]
      exact n2 i hi
    · exact zr_ruleK (by omega) (h5.2.1 r hr) (fun _ _ _ => rfl) (fun j j1 j2 => if_pos (by omega)) rfl rfl
    · obtain ⟨a1, a2, a3⟩ := h6
      refine ⟨a1, a2, ?_⟩
      rcases a3 with a3 | ⟨b1, b2, b3, b4, b5, b6⟩
      · exact Or.inl a3
      · exact Or.inr ⟨b1, b2, b3, b4, fun j j1 j2 => (if_pos (by omega)).trans (b5 j j1 j2), b6⟩
    · have : tx_t (fun i => if i < 32 then S2 i else 0) 0 N2 = tx_t S2 0 N2 := tx_congr fun i hi => by rw [if_pos (by omega)]
      rw [this]
      exact n4
    · rw [if_neg (by omega), m5 j hj]
      have e1 : tx_t S2 0 N2 = tx_t (fun i => if i < 32 then S2 i else 0) 0 N2 := tx_congr fun i hi => by rw [if_pos (by omega)]
      have := (tx_zeq (a := ar) (x := 0) (y := 0) (j := j) n4 (by omega) e1 hj).2
      rw [Nat.zero_add] at this
      rw [this]
    · by_cases c : i < 32
      · rw [if_pos c, ← n2 i c]
        exact n1 _
      · rw [if_neg c]
        omega
    · obtain ⟨a1, a2, a3, a4, a5⟩ := h8
      refine ⟨a1, a2, a3, fun p hp => ?_, a5⟩
      obtain ⟨b1, b2⟩ := a4 p hp
      exact ⟨ox_Sk b1 (fun j j1 j2 => if_pos (by omega)) (fun j j1 j2 => if_pos (by omega)), b2⟩
  · have hn : ¬ nI sm = 0 := nI_ne0 (by omega) (by omega)
    refine br_f hn ?_
    unfold wpY_run
    exact ymiss _ (br_f hn ⟨rfl, zr_in h1 h2 h3 h4 h5 h6 h7 h8 h9⟩)
end
section
theorem oy_Vu {kp lv : Nat → Nat} {l r : List Nat} {a b : Int32} (h : oy_V kp lv l r a) (h' : oy_V kp lv l r b) : a = b := by
  by_cases e : l = r
  · rw [h.1 e, h'.1 e]
  · by_cases e2 : po_V kp lv l r
    · rw [h.2.1 e e2, h'.2.1 e e2]
    · rw [h.2.2 e e2, h'.2.2 e e2]
def cp_G (ar : Nat → Nat) (lim : Nat) (v2 v3 v4 : Int32) : Prop := ∃ ix f o, ix < lim ∧ v2 = nI ix ∧ fd_L ar f ∧ v3 = nI f ∧ o < 24 ∧ v4 = nI (pl_T o)
section
variable {x_pairSlot x_subjectBase x_filteredLeft x_filteredRight x_scratch x_allOrders x_equalMark x_termCells x_phase x_ruleCount x_pairCount x_lineCount x_defined x_openSide x_openMissing x_subjectLength x_subjectMissing : Int32} {x_tok x_end x_cut x_length x_precedences x_above x_greater x_relation x_arity x_shape x_kept x_bound x_links x_lines : Nat → Int32}
variable {y_cap y_phase y_rules y_pairs y_lines y_size : Int32} {y_m y_ar y_len y_pairAt y_rec y_digit y_level y_bind y_hide y_gt y_fit y_path : Nat → Int32}
theorem zx_cmp79 {post : Int32 → SX → Prop} {TX0 en0 TX en ct ar sh kp : Nat → Nat} {gr : Nat → Int32} {f o s : Nat} {l r : List Nat} (hA : fd_A ar) (hf : fd_L ar f) (ho : o < 24)
    (hq : ∀ t, t < 8 → x_arity t = nI (ar t)) (hsh : ∀ t, t < 8 → sh t = fk_x (ar t) (fd_g f t)) (hkp : ∀ t, t < 8 → kp t = fd_kp ar f t) (hab : pl_A x_above)
    (hW : wk_X TX0 en0 TX en ct gr) (hs : s < 15) (hS : ox_S ar TX0 en0 s l r)
    (hp : ∀ TX' en' ct' gr' a, wk_X TX0 en0 TX' en' ct' gr' → oy_V (fd_kp ar f) (pl_v (pl_T o)) (fd_f ar f l) (fd_f ar f r) a → post a (x_pairSlot, x_subjectBase, x_filteredLeft, x_filteredRight, x_scratch, x_allOrders, x_equalMark, x_termCells, x_phase, x_ruleCount, x_pairCount, x_lineCount, x_defined, x_openSide, x_openMissing, x_subjectLength, x_subjectMissing, na_F TX', na_F en', na_F ct', x_length, x_precedences, x_above, gr', x_relation, x_arity, na_F sh, na_F kp, x_bound, x_links, x_lines)) :
    wX_compare_79 post (nI o) (nI s) x_pairSlot x_subjectBase x_filteredLeft x_filteredRight x_scratch x_allOrders x_equalMark x_termCells x_phase x_ruleCount x_pairCount x_lineCount x_defined x_openSide x_openMissing x_subjectLength x_subjectMissing (na_F TX) (na_F en) (na_F ct) x_length x_precedences x_above gr x_relation x_arity (na_F sh) (na_F kp) x_bound x_links x_lines := by
  unfold wX_compare_79
  refine zx_relW hA hf hq hsh hkp hab hW hs hS ?_
  intro TX' en' ct' gr' v hW' hv
  have q := zb_q (n := o) (by omega) v
  have hs' := ox_Vs hv ho
  have hm := ox_Vm hv
  by_cases hb : bt v o = true
  · refine br_f (fun z => by rw [q.mp z] at hb; exact absurd hb (by decide)) (hp TX' en' ct' gr' 2 hW' ?_)
    have := hs'.mp hb
    exact ⟨fun z => absurd z this.1, fun _ _ => rfl, fun _ z => absurd this.2 z⟩
  · have hbf : bt v o = false := by cases h : bt v o; rfl; exact absurd h hb
    refine br_t (q.mpr hbf) ?_
    by_cases e : v = 16777216
    · exact br_t e (hp TX' en' ct' gr' 1 hW' ⟨fun _ => rfl, fun z => absurd (hm.mp e) z, fun z => absurd (hm.mp e) z⟩)
    · exact br_f e (hp TX' en' ct' gr' 0 hW' ⟨fun z => absurd (hm.mpr z) e, fun z1 z2 => absurd (hs'.mpr ⟨z1, z2⟩) hb, fun _ _ => rfl⟩)
theorem zx_cmp26 {post : Int32 → SX → Prop} {ar pc sh kp : Nat → Nat} {lim : Nat} {x1 v2 v3 v4 : Int32} (hlim : lim ≤ 8) (hA : fd_A ar) (hq : ∀ t, t < 8 → x_arity t = nI (ar t)) (hpc : pl_P pc)
    (hbad : ¬ cp_G ar lim v2 v3 v4 → post (-1) (x_pairSlot, x_subjectBase, x_filteredLeft, x_filteredRight, x_scratch, x_allOrders, x_equalMark, x_termCells, x_phase, x_ruleCount, x_pairCount, x_lineCount, x_defined, x_openSide, x_openMissing, x_subjectLength, x_subjectMissing, x_tok, x_end, x_cut, x_length, na_F pc, x_above, x_greater, x_relation, x_arity, na_F sh, na_F kp, x_bound, x_links, x_lines))
    (hgood : ∀ ix f o, ix < lim → v2 = nI ix → fd_L ar f → v3 = nI f → o < 24 → v4 = nI (pl_T o) →
      wpX_loadFilter (fun u => match u with | (x_pairSlot, x_subjectBase, x_filteredLeft, x_filteredRight, x_scratch, x_allOrders, x_equalMark, x_termCells, x_phase, x_ruleCount, x_pairCount, x_lineCount, x_defined, x_openSide, x_openMissing, x_subjectLength, x_subjectMissing, x_tok, x_end, x_cut, x_length, x_precedences, x_above, x_greater, x_relation, x_arity, x_shape, x_kept, x_bound, x_links, x_lines) => (((x1 = 0 → (wX_compare_79 post (nI o) v2 x_pairSlot x_subjectBase x_filteredLeft x_filteredRight x_scratch x_allOrders x_equalMark x_termCells x_phase x_ruleCount x_pairCount x_lineCount x_defined x_openSide x_openMissing x_subjectLength x_subjectMissing x_tok x_end x_cut x_length x_precedences x_above x_greater x_relation x_arity x_shape x_kept x_bound x_links x_lines)) ∧ (¬ x1 = 0 → (wX_compare_79 post (nI o) (7 + v2) x_pairSlot x_subjectBase x_filteredLeft x_filteredRight x_scratch x_allOrders x_equalMark x_termCells x_phase x_ruleCount x_pairCount x_lineCount x_defined x_openSide x_openMissing x_subjectLength x_subjectMissing x_tok x_end x_cut x_length x_precedences x_above x_greater x_relation x_arity x_shape x_kept x_bound x_links x_lines))))) (x_pairSlot, x_subjectBase, x_filteredLeft, x_filteredRight, x_scratch, x_allOrders, x_equalMark, x_termCells, x_phase, x_ruleCount, x_pairCount, x_lineCount, x_defined, x_openSide, x_openMissing, x_subjectLength, x_subjectMissing, x_tok, x_end, x_cut, x_length, na_F pc, x_above, x_greater, x_relation, x_arity, na_F sh, na_F kp, x_bound, x_links, x_lines) v3) :
    wX_compare_26 post x1 v2 v3 v4 (nI lim) x_pairSlot x_subjectBase x_filteredLeft x_filteredRight x_scratch x_allOrders x_equalMark x_termCells x_phase x_ruleCount x_pairCount x_lineCount x_defined x_openSide x_openMissing x_subjectLength x_subjectMissing x_tok x_end x_cut x_length (na_F pc) x_above x_greater x_relation x_arity (na_F sh) (na_F kp) x_bound x_links x_lines := by
  unfold wX_compare_26
  refine zx_precIx hpc ?_ ?_
  · intro o ho eo
    by_cases a1 : v2 < 0
    · exact br_t a1 (hbad fun ⟨ix, f, o, q1, q2, _⟩ => by rw [q2] at a1; exact nI_pos (by omega) a1)
    · obtain ⟨ix, hix, e2⟩ := nI_of a1
      refine br_f a1 ?_
      by_cases a2 : lim ≤ ix
      · exact br_t (by rw [e2]; exact nI_le a2 hix) (hbad fun ⟨ix', f, o, q1, q2, _⟩ => by
          have := (nI_eq hix (by omega)).mp (e2.symm.trans q2)
          omega)
      · refine br_f (by rw [e2]; exact nI_ge (by omega) (by omega)) (br_f (nI_pos (by omega)) ?_)
        refine zx_legal (ar := ar) hA hq ?_ ?_
        · intro f ef hf
          exact br_f (by decide) (hgood ix f o (by omega) e2 hf ef ho eo)
        · intro hnf
          exact br_t rfl (hbad fun ⟨ix, f, o, _, _, q3, q4, _⟩ => hnf f q4 (by have := q3.1; omega) q3)
  · intro hno
    have hb := hbad fun ⟨ix, f, o, _, _, _, _, q5, q6⟩ => hno o q5 q6
    exact br_c (fun _ => hb) (fun _ => br_c (fun _ => hb) (fun _ => br_t (by decide) hb))
theorem zy_cmp29 {post : Int32 → SY → Prop} {ar : Nat → Nat} {lim : Nat} {x1 v2 v3 v4 : Int32} (hlim : lim ≤ 8) (hn : ¬ v2 < 0) (hA : fd_A ar) (hq : ∀ t, t < 8 → y_ar t = nI (ar t))
    (hbad : ¬ cp_G ar lim v2 v3 v4 → post (-1) (y_cap, y_phase, y_rules, y_pairs, y_lines, y_size, y_m, y_ar, y_len, y_pairAt, y_rec, y_digit, y_level, y_bind, y_hide, y_gt, y_fit, y_path))
    (hgood : ∀ ix f o, ix < lim → v2 = nI ix → fd_L ar f → v3 = nI f → o < 24 → v4 = nI (pl_T o) → wpY_relation (fun r_45 u => match u with | (y_cap, y_phase, y_rules, y_pairs, y_lines, y_size, y_m, y_ar, y_len, y_pairAt, y_rec, y_digit, y_level, y_bind, y_hide, y_gt, y_fit, y_path) => (post r_45 (y_cap, y_phase, y_rules, y_pairs, y_lines, y_size, y_m, y_ar, y_len, y_pairAt, y_rec, y_digit, y_level, y_bind, y_hide, y_gt, y_fit, y_path))) (y_cap, y_phase, y_rules, y_pairs, y_lines, y_size, y_m, y_ar, y_len, y_pairAt, y_rec, y_digit, y_level, y_bind, y_hide, y_gt, y_fit, y_path) x1 v2 v3 v4) :
    wY_compare_29 post x1 v2 v3 v4 (nI lim) v2 y_cap y_phase y_rules y_pairs y_lines y_size y_m y_ar y_len y_pairAt y_rec y_digit y_level y_bind y_hide y_gt y_fit y_path := by
  obtain ⟨ix, hix, e2⟩ := nI_of hn
  unfold wY_compare_29
  by_cases a2 : ix < lim
  · refine br_t (by rw [e2]; exact nI_lt a2 (by omega)) ?_
    refine zy_legal (ar := ar) hA hq ?_ ?_
    · intro f ef hf
      refine br_f (by decide) ?_
      refine zy_legalP ?_ ?_
      · intro o ho eo
        exact br_f (by decide) (hgood ix f o a2 e2 hf ef ho eo)
      · intro hno
        exact br_t rfl (hbad fun ⟨ix, f, o, _, _, _, _, q5, q6⟩ => hno o q5 q6)
    · intro hnf
      exact br_t rfl (hbad fun ⟨ix, f, o, _, _, q3, q4, _⟩ => hnf f q4 (by have := q3.1; omega) q3)
  · exact br_f (by rw [e2]; exact nI_nlt (by omega) hix) (hbad fun ⟨ix', f, o, q1, q2, _⟩ => by
      have := (nI_eq hix (by omega)).mp (e2.symm.trans q2)
      omega)
end
theorem i_vc_compare {k : Nat} {u : SX} {v : SY} (I : i_Rel k u v) (hk : k + 5 ≤ 2564) (v1 : Int32) (v2 : Int32) (v3 : Int32) (v4 : Int32) : wpX_compare (fun r u' => wpY_compare (fun r' v' => r' = r ∧ i_Rel (k + 5) u' v') v v1 v2 v3 v4) u v1 v2 v3 v4 := by
  refine zr_el (Q := fun u v => wpX_compare (fun r u' => wpY_compare (fun r' v' => r' = r ∧ i_Rel (k + 5) u' v') v v1 v2 v3 v4) u v1 v2 v3 v4) ?_ I
  intro c1 c2 c3 c4 c5 c6 c7 df cap ph R P L os om sl sm ar TX en ct ln pc sh kp TY A len pa dg lvl hd gt ft pt G S TX0 en0 TY0 ab gr rl bd lk rec bi h1 h2 h3 h4 h5 h6 h7 h8 h9
  have hP := h8.2.1
  have hR := h5.1
  have hqX : ∀ t, t < 8 → na_F ar t = nI (ar t) := fun t _ => rfl
  have hqY : ∀ t, t < 8 → na_F A t = nI (ar t) := fun t ht => by rw [na_at, h3.1.2.2.1 t ht]
  have I' : i_Rel (k + 5) (c1, c2, c3, c4, c5, c6, c7, nI cap, nI ph, nI R, nI P, nI L, df, nI os, nI om, nI sl, nI sm, na_F TX, na_F en, na_F ct, na_F ln, na_F pc, ab, gr, rl, na_F ar, na_F sh, na_F kp, bd, lk, rec) (nI cap, nI ph, nI R, nI P, nI L, nI sl, na_F TY, na_F A, na_F len, na_F pa, rec, na_F dg, na_F lvl, bi, na_F hd, na_F gt, na_F ft, na_F pt) := zr_in h1 h2 h3 h4 h5 h6 h7 h8 h9
  have hT := zr_wT h4 h5 h8
  have hU := zr_wU h4 h5 h8
  -- the reference, for either kind
  have ybad : ∀ kd lim : Nat, ((kd = 0 ∧ lim = R) ∨ (kd = 1 ∧ lim = P)) → ¬ cp_G ar lim v2 v3 v4 → wpY_compare (fun r' v' => r' = -1 ∧ i_Rel (k + 5) (c1, c2, c3, c4, c5, c6, c7, nI cap, nI ph, nI R, nI P, nI L, df, nI os, nI om, nI sl, nI sm, na_F TX, na_F en, na_F ct, na_F ln, na_F pc, ab, gr, rl, na_F ar, na_F sh, na_F kp, bd, lk, rec) v') (nI cap, nI ph, nI R, nI P, nI L, nI sl, na_F TY, na_F A, na_F len, na_F pa, rec, na_F dg, na_F lvl, bi, na_F hd, na_F gt, na_F ft, na_F pt) (nI kd) v2 v3 v4 := by
    intro kd lim hkd hb
    have y9 : wY_compare_9 (fun r' v' => r' = -1 ∧ i_Rel (k + 5) (c1, c2, c3, c4, c5, c6, c7, nI cap, nI ph, nI R, nI P, nI L, df, nI os, nI om, nI sl, nI sm, na_F TX, na_F en, na_F ct, na_F ln, na_F pc, ab, gr, rl, na_F ar, na_F sh, na_F kp, bd, lk, rec) v') (nI kd) v2 v3 v4 (nI cap) (nI ph) (nI R) (nI P) (nI L) (nI sl) (na_F TY) (na_F A) (na_F len) (na_F pa) rec (na_F dg) (na_F lvl) bi (na_F hd) (na_F gt) (na_F ft) (na_F pt) := by
      by_cases a1 : v2 < 0
      · exact br_t a1 ⟨rfl, I'⟩
      · refine br_f a1 ?_
        rcases hkd with ⟨e1, e2⟩ | ⟨e1, e2⟩ <;> subst e1 <;> subst e2
        · exact br_t rfl (zy_cmp29 (by omega) a1 h1.1 hqY (fun _ => ⟨rfl, I'⟩) (fun ix f o q1 q2 q3 q4 q5 q6 => absurd ⟨ix, f, o, q1, q2, q3, q4, q5, q6⟩ hb))
        · exact br_f (by decide) (zy_cmp29 (by omega) a1 h1.1 hqY (fun _ => ⟨rfl, I'⟩) (fun ix f o q1 q2 q3 q4 q5 q6 => absurd ⟨ix, f, o, q1, q2, q3, q4, q5, q6⟩ hb))
    rcases hkd with ⟨e1, e2⟩ | ⟨e1, e2⟩ <;> subst e1
    · exact br_t rfl y9
    · exact br_f (by decide) (br_t rfl y9)
  have ygood : ∀ (kd lim ix f o pl pr : Nat) (l r : List Nat), ((kd = 0 ∧ lim = R) ∨ (kd = 1 ∧ lim = P)) → ix < lim → v2 = nI ix → fd_L ar f → v3 = nI f → o < 24 → v4 = nI (pl_T o) → oy_P (na_F pa) kd ix pl pr → oy_T ar TY0 pl pr l r →
      ∀ (a : Int32) (TX' en' ct' sh' kp' : Nat → Nat) (gr' : Nat → Int32), zr_2 TX0 en0 TX' en' ct' sh' kp' gr' → oy_V (fd_kp ar f) (pl_v (pl_T o)) (fd_f ar f l) (fd_f ar f r) a →
      wpY_compare (fun r' v' => r' = a ∧ i_Rel (k + 5) (c1, c2, c3, c4, c5, c6, c7, nI cap, nI ph, nI R, nI P, nI L, df, nI os, nI om, nI sl, nI sm, na_F TX', na_F en', na_F ct', na_F ln, na_F pc, ab, gr', rl, na_F ar, na_F sh', na_F kp', bd, lk, rec) v') (nI cap, nI ph, nI R, nI P, nI L, nI sl, na_F TY, na_F A, na_F len, na_F pa, rec, na_F dg, na_F lvl, bi, na_F hd, na_F gt, na_F ft, na_F pt) (nI kd) v2 v3 v4 := by
    intro kd lim ix f o pl pr l r hkd hix e2 hf e3 ho e4 hPl hTl a TX' en' ct' sh' kp' gr' hW' ha
    have rel : wpY_relation (fun r_45 u => match u with | (y_cap, y_phase, y_rules, y_pairs, y_lines, y_size, y_m, y_ar, y_len, y_pairAt, y_rec, y_digit, y_level, y_bind, y_hide, y_gt, y_fit, y_path) => (r_45 = a ∧ i_Rel (k + 5) (c1, c2, c3, c4, c5, c6, c7, nI cap, nI ph, nI R, nI P, nI L, df, nI os, nI om, nI sl, nI sm, na_F TX', na_F en', na_F ct', na_F ln, na_F pc, ab, gr', rl, na_F ar, na_F sh', na_F kp', bd, lk, rec) (y_cap, y_phase, y_rules, y_pairs, y_lines, y_size, y_m, y_ar, y_len, y_pairAt, y_rec, y_digit, y_level, y_bind, y_hide, y_gt, y_fit, y_path))) (nI cap, nI ph, nI R, nI P, nI L, nI sl, na_F TY, na_F A, na_F len, na_F pa, rec, na_F dg, na_F lvl, bi, na_F hd, na_F gt, na_F ft, na_F pt) (nI kd) v2 v3 v4 := by
      rw [e2, e3, e4]
      refine zy_relW h1.1 hf ho h3.1 hPl hTl ?_
      intro TY' A' dg' lvl' hd' gt' v hWY hv
      exact ⟨oy_Vu hv ha, zr_in h1 hW' ⟨hWY, h3.2⟩ h4 h5 h6 h7 h8 h9⟩
    have hlim : lim ≤ 8 := by omega
    have a1 : ¬ v2 < 0 := by rw [e2]; exact nI_pos (by omega)
    have hg : cp_G ar lim v2 v3 v4 := ⟨ix, f, o, hix, e2, hf, e3, ho, e4⟩
    rcases hkd with ⟨k1, k2⟩ | ⟨k1, k2⟩ <;> subst k1 <;> subst k2
    · exact br_t rfl (br_f a1 (br_t rfl (zy_cmp29 hlim a1 h1.1 hqY (fun z => absurd hg z) (fun _ _ _ _ _ _ _ _ _ => rel))))
    · exact br_f (by decide) (br_t rfl (br_f a1 (br_f (by decide) (zy_cmp29 hlim a1 h1.1 hqY (fun z => absurd hg z) (fun _ _ _ _ _ _ _ _ _ => rel)))))
  by_cases k0 : v1 = 0
  · subst k0
    refine br_t rfl (br_t rfl ?_)
    refine zx_cmp26 (by omega) h1.1 hqX h1.2.2.2.1 (fun hb => ybad 0 R (Or.inl ⟨rfl, rfl⟩) hb) ?_
    intro ix f o hix e2 hf e3 ho e4
    rw [e3]
    refine zx_load h1.1 hf hqX h2.2 ?_
    intro sh' kp' hsh hkp
    refine br_t rfl ?_
    rw [e2]
    refine zx_cmp79 h1.1 hf ho hqX hsh hkp h1.2.2.2.2 h2.1 (by omega) (hT.2.2.1 ix hix) ?_
    intro TX' en' ct' gr' a hW' ha
    have hs' : ∀ t, t < 8 → 4 ≤ t → sh' t = 4 ∧ kp' t = 0 := by
      intro t h8 h4
      rw [hsh t h8, hkp t h8, h1.1.2.2.2.2 t h4, fd_kpv h1.1 f h4]
      exact ⟨rfl, rfl⟩
    rw [← e3, ← e2]
    exact ygood 0 R ix f o (16 * ix) (16 * ix + 8) _ _ (Or.inl ⟨rfl, rfl⟩) hix e2 hf e3 ho e4 (Or.inl ⟨rfl, by omega, rfl, rfl⟩) (hU.2.2.1 ix hix) a TX' en' ct' sh' kp' gr' ⟨hW', hs'⟩ ha
  · refine br_f k0 ?_
    by_cases k1 : v1 = 1
    · subst k1
      refine br_t rfl (br_f (by decide) ?_)
      refine zx_cmp26 (by omega) h1.1 hqX h1.2.2.2.1 (fun hb => ybad 1 P (Or.inr ⟨rfl, rfl⟩) hb) ?_
      intro ix f o hix e2 hf e3 ho e4
      rw [e3]
      refine zx_load h1.1 hf hqX h2.2 ?_
      intro sh' kp' hsh hkp
      refine br_f (by decide) ?_
      rw [e2, show (7 : Int32) + nI ix = nI (7 + ix) from nI_add 7 ix]
      refine zx_cmp79 h1.1 hf ho hqX hsh hkp h1.2.2.2.2 h2.1 (by omega) (hT.2.2.2 ix hix) ?_
      intro TX' en' ct' gr' a hW' ha
      have hs' : ∀ t, t < 8 → 4 ≤ t → sh' t = 4 ∧ kp' t = 0 := by
        intro t h8 h4
        rw [hsh t h8, hkp t h8, h1.1.2.2.2.2 t h4, fd_kpv h1.1 f h4]
        exact ⟨rfl, rfl⟩
      rw [← e3, ← e2]
      obtain ⟨pl, pr, w1, w2⟩ := hU.2.2.2 ix hix
      exact ygood 1 P ix f o pl pr _ _ (Or.inr ⟨rfl, rfl⟩) hix e2 hf e3 ho e4 w1 w2 a TX' en' ct' sh' kp' gr' ⟨hW', hs'⟩ ha
    · exact br_f k1 (br_f k0 (br_f k1 ⟨rfl, I'⟩))
theorem bd_eq {ar TY len pa : Nat → Nat} {R P : Nat} {pl : List Nat} (h : ∀ p, p < P → pa p = pl.getD p 0) (a b : Nat) :
    ed_C ar TY (fun p => tx_t TY (pl.getD p 0 / 16 * 16) (len (2 * (pl.getD p 0 / 16)))) (fun p => tx_t TY (pl.getD p 0) (tx_z ar TY (pl.getD p 0))) R P a b ↔ ed_C ar TY (zr_LP TY len pa) (zr_RP ar TY pa) R P a b := by
  unfold ed_C zr_LP zr_RP
  constructor
  · rintro ⟨h1, h2, h3⟩
    refine ⟨h1, h2, ?_⟩
    rw [h a h1, h b h2]
    exact h3
  · rintro ⟨h1, h2, h3⟩
    refine ⟨h1, h2, ?_⟩
    rw [h a h1, h b h2] at h3
    exact h3
theorem i_vc_build {k : Nat} {u : SX} {v : SY} (I : i_Rel k u v) (hk : k + 5 ≤ 2564) : wpX_build (fun r u' => wpY_build (fun r' v' => r' = r ∧ i_Rel (k + 5) u' v') v) u := by
  refine zr_el (Q := fun u v => wpX_build (fun r u' => wpY_build (fun r' v' => r' = r ∧ i_Rel (k + 5) u' v') v) u) ?_ I
  intro c1 c2 c3 c4 c5 c6 c7 df cap ph R P L os om sl sm ar TX en ct ln pc sh kp TY A len pa dg lvl hd gt ft pt G S TX0 en0 TY0 ab gr rl bd lk rec bi h1 h2 h3 h4 h5 h6 h7 h8 h9
  have hR := h5.1
  have hqX : ∀ t, t < 8 → na_F ar t = nI (ar t) := fun t _ => rfl
  have hln := h4.2.2.2.2.2
  rcases h8.1 with ⟨e1, e2, e3⟩ | ⟨e1, e2, e3⟩
  · subst e1
    subst e2
    subst e3
    by_cases hz : len (2 * R) = 0
    · obtain ⟨o1, o2⟩ := zr_open0 h6 hz
      -- the texts: the reference's cells are the rules' for both
      have eX : ∀ k, k < 112 → TX k = TY k := fun k hk => by rw [h2.1.2.1 k (by omega), h4.1 k hk, h3.1.2.1 k (by omega), h4.2.2.1 k hk]
      have eG : ∀ k, k < 112 → G k = TY k := fun k hk => by rw [h3.1.2.1 k (by omega), h4.2.2.1 k hk]
      have hrule : ∀ r, r < R → zr_rule ar TY en len r := fun r hr => zr_ruleK (by omega) (h5.2.1 r hr) (fun k a b => (eG k (by omega)).symm) (fun k a b => h2.1.2.2.1 k (by omega)) rfl rfl
      have hl8 : ∀ r, r < R → len (2 * r + 1) ≤ 8 := fun r hr => (hrule r hr).2.1
      refine zx_build h1.1 hqX hR h3.1.1 ⟨h2.1.1, eX, fun _ _ => rfl, fun _ _ => rfl, hln⟩ hrule hz ?_ ?_
      · intro df' hbig
        refine zy_build hR h3.1.1 hl8 hz ?_ ?_
        · intro pa' _
          exact ⟨rfl, zr_in (ph := 0) (P := 0) (L := 0) h1 h2 h3 h4 h5 h6 h7 zr_8l zr_9l⟩
        · intro pa' hle
          omega
      · intro df' T' en' ln' lk' hle hB hI hC
        refine zy_build hR h3.1.1 hl8 hz ?_ ?_
        · intro pa' hbig
          omega
        · intro pa' _ hpa
          refine ⟨rfl, ?_⟩
          obtain ⟨w1, w2, w3, w4, w5, w6⟩ := h2.1
          obtain ⟨b1, b2, b3, b4, b5⟩ := hB
          -- G is now the reference's cells
          refine zr_in (ph := 1) (L := 0) (G := TY) (TX0 := T') (en0 := en') (TY0 := TY) (S := S) h1 ⟨⟨b1, fun _ _ => rfl, fun _ _ => rfl, w4, w5, w6⟩, h2.2⟩ ⟨⟨h3.1.1, fun _ _ => rfl, h3.1.2.2⟩, h3.2⟩ ⟨b2, fun i hi => ?_, fun _ _ => rfl, fun i hi => ?_, h3.1.1, b5⟩ ⟨hR, fun r hr => ?_, h5.2.2⟩ ?_ ⟨h7.1, h7.2.1, fun z j hj => ?_, h7.2.2.2⟩ ⟨Or.inr ⟨rfl, hz, o1⟩, hle, fun p hp => ?_, fun p hp => ?_, fun _ => ?_⟩ zr_9l
          · rw [b3 _ (by omega), w2 _ (by omega), h4.2.1 i hi]
          · rw [h3.1.2.1 _ (by omega), h4.2.2.2.1 i hi]
          · exact zr_ruleK (by omega) (hrule r hr) (fun _ _ _ => rfl) (fun k a b => b4 k (by omega)) rfl rfl
          · refine ⟨h6.1, h6.2.1, Or.inl ⟨o1, o2, ?_, ?_, fun z => by omega⟩⟩
            · rcases h6.2.2 with ⟨_, _, b, _⟩ | ⟨z, _⟩
              · exact b
              · omega
            · rcases h6.2.2 with ⟨_, _, _, b, _⟩ | ⟨z, _⟩
              · unfold zr_LL at b ⊢
                rw [hz] at b ⊢
                exact b
              · omega
          · have := h7.1
            have := h1.2.2.1
            rw [b4 _ (by omega), w3 _ (by omega)]
            exact h7.2.2.1 z j hj
          · rw [hpa p hp]
            exact bp_rmem R (bp_getD hp)
          · obtain ⟨i1, i2, i3⟩ := hI p hp
            unfold zr_LP zr_RP
            rw [hpa p hp, tx_len, tx_len]
            exact ⟨i1, i2, i3⟩
          · refine ⟨fun a b z => hC.1 a b ((bd_eq hpa a b).mpr z), fun r hr s hs => ?_, fun r hr s hs => ?_⟩
            · rw [hC.2.1 r hr s hs]
              exact bd_eq hpa r s
            · rw [hC.2.2 r hr s hs]
              exact bd_eq hpa s r
    · have hlen8 : len (2 * R) ≤ 8 := by
        rcases h6.2.2 with ⟨_, _, b, _⟩ | ⟨_, b, _⟩
        · omega
        · exact b
      have i1 : nI R * 2 = nI (2 * R) := by rw [show 2 * R = R * 2 from Nat.mul_comm _ _, ← pk_mul]; rfl
      have i2 : (2 : Int32) * nI R = nI (2 * R) := by rw [← pk_mul]; rfl
      refine br_f (by decide) ⟨pk_in (2 * R) 30 (by omega) i1, ?_⟩
      rw [i1, nI_clamp (by omega), na_at, hln _ (by omega)]
      have n0 : ¬ nI (len (2 * R)) ≤ 0 := nI_ge (a := 0) (by omega) (by omega)
      refine br_f n0 (br_f (by decide) ⟨pk_in (2 * R) 14 (by omega) i2, ?_⟩)
      rw [i2, nI_clamp (by omega), na_at]
      exact br_f n0 ⟨rfl, zr_in (ph := 0) (P := 0) (L := 0) h1 h2 h3 h4 h5 h6 h7 h8 h9⟩
  · subst e1
    exact br_t rfl (br_t rfl ⟨rfl, zr_in (ph := 1) h1 h2 h3 h4 h5 h6 h7 h8 h9⟩)
end
section
theorem tx_snoc {a T : Nat → Nat} {b n m ms t : Nat} (h : tx_M a (tx_t T b n) m ms) (h0 : 0 < ms) : tx_M a (tx_t (na_u T (b + n) t) b (n + 1)) m (ms - 1 + a t) := by
  rw [tx_app]
  have e1 : tx_t (na_u T (b + n) t) b n = tx_t T b n := tx_congr fun i hi => na_un (by omega)
  have e2 : tx_t (na_u T (b + n) t) (b + n) 1 = [t] := by
    show [na_u T (b + n) t (b + n)] = [t]
    rw [na_us]
  rw [e1, e2]
  exact (tx_M_app _ _ _ _).mpr ⟨ms, h, ms - 1, by omega, rfl⟩
theorem tx_snocl {T : Nat → Nat} {b n t : Nat} : tx_t (na_u T (b + n) t) b (n + 1) = tx_t T b n ++ [t] := by
  rw [tx_app]
  have e1 : tx_t (na_u T (b + n) t) b n = tx_t T b n := tx_congr fun i hi => na_un (by omega)
  have e2 : tx_t (na_u T (b + n) t) (b + n) 1 = [t] := by
    show [na_u T (b + n) t (b + n)] = [t]
    rw [na_us]
  rw [e1, e2]
theorem na_u8 {T : Nat → Nat} {k t : Nat} (h : ∀ k, T k < 8) (ht : t < 8) : ∀ j, na_u T k t j < 8 := by
  intro j
  unfold na_u
  split
  · exact ht
  · exact h j
section
variable {x_pairSlot x_subjectBase x_filteredLeft x_filteredRight x_scratch x_allOrders x_equalMark x_termCells x_phase x_ruleCount x_pairCount x_lineCount x_defined x_openSide x_openMissing x_subjectLength x_subjectMissing : Int32} {x_tok x_end x_cut x_length x_precedences x_above x_greater x_relation x_arity x_shape x_kept x_bound x_links x_lines : Nat → Int32}
variable {y_cap y_phase y_rules y_pairs y_lines y_size : Int32} {y_m y_ar y_len y_pairAt y_rec y_digit y_level y_bind y_hide y_gt y_fit y_path : Nat → Int32}
theorem zx_term50 {post : Int32 → SX → Prop} {ar T en : Nat → Nat} {cap n ms t : Nat} (hA : fd_A ar) (hq : ∀ t, t < 8 → x_arity t = nI (ar t)) (hcap : cap ≤ 32) (hn : n + ms ≤ cap) (hms : 0 < ms) (ht : t < 8) (hT : ∀ k, T k < 8) (hM : tx_M ar (tx_t T 240 n) 1 ms)
    (hbig : cap < n + ms + ar t → post (-1) (x_pairSlot, x_subjectBase, x_filteredLeft, x_filteredRight, x_scratch, x_allOrders, x_equalMark, nI cap, x_phase, x_ruleCount, x_pairCount, x_lineCount, x_defined, x_openSide, x_openMissing, x_subjectLength, x_subjectMissing, na_F T, na_F en, x_cut, x_length, x_precedences, x_above, x_greater, x_relation, x_arity, x_shape, x_kept, x_bound, x_links, x_lines))
    (hmore : n + ms + ar t ≤ cap → 0 < ms - 1 + ar t → post 1 (x_pairSlot, x_subjectBase, x_filteredLeft, x_filteredRight, x_scratch, x_allOrders, x_equalMark, nI cap, x_phase, x_ruleCount, x_pairCount, x_lineCount, x_defined, x_openSide, x_openMissing, nI (n + 1), nI (ms - 1 + ar t), na_F (na_u T (240 + n) t), na_F en, x_cut, x_length, x_precedences, x_above, x_greater, x_relation, x_arity, x_shape, x_kept, x_bound, x_links, x_lines))
    (hdone : n + ms + ar t ≤ cap → ms - 1 + ar t = 0 → ∀ en', (∀ k, 240 ≤ k → k < 240 + (n + 1) → en' k = k + tx_z ar (na_u T (240 + n) t) k) → (∀ k, k < 240 ∨ 240 + (n + 1) ≤ k → en' k = en k) → post 3 (x_pairSlot, x_subjectBase, x_filteredLeft, x_filteredRight, x_scratch, x_allOrders, x_equalMark, nI cap, x_phase, x_ruleCount, x_pairCount, x_lineCount, x_defined, x_openSide, x_openMissing, nI (n + 1), nI (ms - 1 + ar t), na_F (na_u T (240 + n) t), na_F en', x_cut, x_length, x_precedences, x_above, x_greater, x_relation, x_arity, x_shape, x_kept, x_bound, x_links, x_lines)) :
    wX_putTerm_50 post (nI t) (nI n) (nI ms) x_pairSlot x_subjectBase x_filteredLeft x_filteredRight x_scratch x_allOrders x_equalMark (nI cap) x_phase x_ruleCount x_pairCount x_lineCount x_defined x_openSide x_openMissing x_subjectLength x_subjectMissing (na_F T) (na_F en) x_cut x_length x_precedences x_above x_greater x_relation x_arity x_shape x_kept x_bound x_links x_lines := by
  obtain ⟨m, rfl⟩ : ∃ m, ms = m + 1 := ⟨ms - 1, by omega⟩
  have a3 := fd_A3 hA t
  have eq := hq t ht
  have es : m + 1 - 1 = m := by omega
  rw [es] at hmore hdone
  have hS := tx_snoc (t := t) hM hms
  rw [es] at hS
  unfold wX_putTerm_50
  simp (disch := omega) only [li_0, li_1, li_2, li_3, li_4, li_5, li_6, li_7, li_8, li_11, li_15, li_16, li_24, li_32, li_112, li_144, li_152, li_160, li_192, li_240, li_255, li_256, li_272, li_280, li_288, li_1295, li_1296, nI_add, pk_mul, pk_sub, ni_m1, nI_clamp, ni_in, nI_leI, nI_ltI, nI_eq, forall_eq, na_at, na_upd, Nat.zero_add, Nat.add_zero, eq, es]
  refine ⟨by omega, br_c (fun q => ⟨by omega, by omega, br_c (fun q2 => ?_) (fun q2 => hmore q (by omega))⟩) (fun q => hbig (by omega))⟩
  have hz : m + ar t = 0 := by omega
  refine zx_markEnds (q := ar) (b := 240) (na_u8 hT ht) (fd_A3 hA) (fun t ht => ⟨fun _ => hq t ht, fun z => absurd rfl z⟩) (by omega) (by omega) (by rw [hz] at hS; exact hS) ?_
  intro en' h1 h2
  exact hdone q hz en' h1 h2
theorem zy_term33 {post : Int32 → SY → Prop} {ar T : Nat → Nat} {cap n ms t : Nat} (hA : fd_A ar) (hq : ∀ t, t < 8 → y_ar t = nI (ar t)) (hcap : cap ≤ 32) (hn : n + ms ≤ cap) (hms : 0 < ms) (ht : t < 8) (hT : ∀ k, T k < 8) (hM : tx_M ar (tx_t T 112 n) 1 ms)
    (hbig : cap < n + ms + ar t → post (-1) (nI cap, y_phase, y_rules, y_pairs, y_lines, y_size, na_F T, y_ar, y_len, y_pairAt, y_rec, y_digit, y_level, y_bind, y_hide, y_gt, y_fit, y_path))
    (hmore : n + ms + ar t ≤ cap → 0 < ms - 1 + ar t → post 1 (nI cap, y_phase, y_rules, y_pairs, y_lines, nI (n + 1), na_F (na_u T (112 + n) t), y_ar, y_len, y_pairAt, y_rec, y_digit, y_level, y_bind, y_hide, y_gt, y_fit, y_path))
    (hdone : n + ms + ar t ≤ cap → ms - 1 + ar t = 0 → post 3 (nI cap, y_phase, y_rules, y_pairs, y_lines, nI (n + 1), na_F (na_u T (112 + n) t), y_ar, y_len, y_pairAt, y_rec, y_digit, y_level, y_bind, y_hide, y_gt, y_fit, y_path)) :
    wY_putTerm_33 post (nI t) (nI n) (nI cap) y_phase y_rules y_pairs y_lines y_size (na_F T) y_ar y_len y_pairAt y_rec y_digit y_level y_bind y_hide y_gt y_fit y_path := by
  have a3 := fd_A3 hA t
  have eq := hq t ht
  have hS := tx_snoc (t := t) hM hms
  unfold wY_putTerm_33
  refine zy_missing (b := 112) hT hq (by omega) hM ?_
  have e1 : (nI n + 1 + nI ms - 1 + y_ar (nI t).toNatClampNeg) = nI (n + ms + ar t) := by
    rw [nI_clamp (by omega), eq, nI_1, nI_add, show nI (n + 1 + ms) - 1 = nI (n + ms) from by rw [show n + 1 + ms = n + ms + 1 by omega]; exact nI_pred _, nI_add]
  refine ⟨vp_in_nI (by omega) (by omega), ?_⟩
  rw [e1]
  by_cases q : n + ms + ar t ≤ cap
  · refine br_t (nI_le q (by omega)) ⟨pk_in (112 + n) 192 (by omega) (nI_add 112 n), ?_⟩
    rw [show (112 : Int32) + nI n = nI (112 + n) from nI_add 112 n, nI_clamp (by omega), na_upd]
    refine nm_e (nm_r (e' := nI (n + 1)) (nI_1 n) ?_)
    refine zy_missing (b := 112) (na_u8 hT ht) hq (by omega) hS ?_
    by_cases q2 : ms - 1 + ar t = 0
    · exact br_t (by rw [q2]; rfl) (hdone q q2)
    · exact br_f (nI_ne0 (by omega) (by omega)) (hmore q (by omega))
  · exact br_f (nI_ge (by omega) (by omega)) (hbig (by omega))
end
theorem i_vc_putTerm {k : Nat} {u : SX} {v : SY} (I : i_Rel k u v) (hk : k + 5 ≤ 2564) (v1 : Int32) : wpX_putTerm (fun r u' => wpY_putTerm (fun r' v' => r' = r ∧ i_Rel (k + 5) u' v') v v1) u v1 := by
  refine zr_el (Q := fun u v => wpX_putTerm (fun r u' => wpY_putTerm (fun r' v' => r' = r ∧ i_Rel (k + 5) u' v') v v1) u v1) ?_ I
  intro c1 c2 c3 c4 c5 c6 c7 df cap ph R P L os om sl sm ar TX en ct ln pc sh kp TY A len pa dg lvl hd gt ft pt G S TX0 en0 TY0 ab gr rl bd lk rec bi h1 h2 h3 h4 h5 h6 h7 h8 h9
  have hcap := h1.2.2.1
  have hcap8 := h1.2.1
  have hsl := h7.1
  have hP := h8.2.1
  have hR := h5.1
  have hqX : ∀ t, t < 8 → na_F ar t = nI (ar t) := fun t _ => rfl
  have hqY : ∀ t, t < 8 → na_F A t = nI (ar t) := fun t ht => by rw [na_at, h3.1.2.2.1 t ht]
  have I' : i_Rel (k + 5) (c1, c2, c3, c4, c5, c6, c7, nI cap, nI ph, nI R, nI P, nI L, df, nI os, nI om, nI sl, nI sm, na_F TX, na_F en, na_F ct, na_F ln, na_F pc, ab, gr, rl, na_F ar, na_F sh, na_F kp, bd, lk, rec) (nI cap, nI ph, nI R, nI P, nI L, nI sl, na_F TY, na_F A, na_F len, na_F pa, rec, na_F dg, na_F lvl, bi, na_F hd, na_F gt, na_F ft, na_F pt) := zr_in h1 h2 h3 h4 h5 h6 h7 h8 h9
  by_cases a1 : v1 < 0
  · exact br_t a1 (br_t a1 ⟨rfl, I'⟩)
  · obtain ⟨t, ht31, rfl⟩ := nI_of a1
    refine br_f a1 ?_
    by_cases a2 : t ≤ 7
    · have l7 : nI t ≤ 7 := nI_le (b := 7) a2 (by omega)
      refine br_t l7 ?_
      -- both, from the n tokens that stay
      have core : ∀ n ms, n + ms ≤ cap → 0 < ms → tx_M ar (tx_t S 0 n) 1 ms → ∀ F : (Int32 → SY → Prop) → Prop,
          (∀ post, wY_putTerm_33 post (nI t) (nI n) (nI cap) (nI ph) (nI R) (nI P) (nI L) (nI sl) (na_F TY) (na_F A) (na_F len) (na_F pa) rec (na_F dg) (na_F lvl) bi (na_F hd) (na_F gt) (na_F ft) (na_F pt) → F post) →
          wX_putTerm_50 (fun r u' => F (fun r' v' => r' = r ∧ i_Rel (k + 5) u' v')) (nI t) (nI n) (nI ms) c1 c2 c3 c4 c5 c6 c7 (nI cap) (nI ph) (nI R) (nI P) (nI L) df (nI os) (nI om) (nI sl) (nI sm) (na_F TX) (na_F en) (na_F ct) (na_F ln) (na_F pc) ab gr rl (na_F ar) (na_F sh) (na_F kp) bd lk rec := by
        intro n ms hn hms hM F hF
        have eX : ∀ m, m ≤ 32 → tx_t TX 240 m = tx_t S 0 m := fun m hm => tx_congr fun i hi => by rw [h2.1.2.1 _ (by omega), h4.2.1 i (by omega), Nat.zero_add]
        have eY : ∀ m, m ≤ 32 → tx_t TY 112 m = tx_t S 0 m := fun m hm => tx_congr fun i hi => by rw [h3.1.2.1 _ (by omega), h4.2.2.2.1 i (by omega), Nat.zero_add]
        have hS := tx_snoc (t := t) (b := 0) hM hms
        rw [Nat.zero_add] at hS
        -- the new state
        have done : ∀ en', n + ms + ar t ≤ cap → (∀ k, k < 240 → en' k = en k) → (ms - 1 + ar t = 0 → ∀ j, j < n + 1 → en' (240 + j) = 240 + (j + tx_z ar (na_u S n t) j)) →
            i_Rel (k + 5) (c1, c2, c3, c4, c5, c6, c7, nI cap, nI ph, nI R, nI P, nI L, df, nI os, nI om, nI (n + 1), nI (ms - 1 + ar t), na_F (na_u TX (240 + n) t), na_F en', na_F ct, na_F ln, na_F pc, ab, gr, rl, na_F ar, na_F sh, na_F kp, bd, lk, rec)
              (nI cap, nI ph, nI R, nI P, nI L, nI (n + 1), na_F (na_u TY (112 + n) t), na_F A, na_F len, na_F pa, rec, na_F dg, na_F lvl, bi, na_F hd, na_F gt, na_F ft, na_F pt) := by
          intro en' hle hen1 hen2
          obtain ⟨w1, w2, w3, w4, w5, w6⟩ := h2.1
          refine zr_in (S := na_u S n t) (TX0 := na_u TX0 (240 + n) t) (en0 := fun k => if k < 240 then en0 k else en' k) (TY0 := na_u TY0 (112 + n) t) h1 ⟨⟨na_u8 w1 (by omega), fun j hj => ?_, fun j hj => ?_, w4, w5, w6⟩, h2.2⟩ ⟨⟨na_u8 h3.1.1 (by omega), fun j hj => ?_, h3.1.2.2⟩, h3.2⟩ ⟨fun j hj => ?_, fun i hi => ?_, fun j hj => ?_, fun i hi => ?_, h4.2.2.2.2⟩ ⟨h5.1, fun r hr => ?_, h5.2.2⟩ ?_ ⟨by omega, hS, fun z j hj => ?_, na_u8 h7.2.2.2 (by omega)⟩ ?_ h9
          · unfold na_u
            split
            · rfl
            · exact w2 j hj
          · dsimp only
            by_cases c : j < 240
            · rw [if_pos c, hen1 j c, w3 j hj]
            · rw [if_neg c]
          · unfold na_u
            split
            · rfl
            · exact h3.1.2.1 j hj
          · rw [na_un (by omega)]
            exact h4.1 j hj
          · unfold na_u
            by_cases c : i = n
            · rw [if_pos (by omega), if_pos c]
            · rw [if_neg (by omega), if_neg c]
              exact h4.2.1 i hi
          · rw [na_un (by omega)]
            exact h4.2.2.1 j hj
          · unfold na_u
            by_cases c : i = n
            · rw [if_pos (by omega), if_pos c]
            · rw [if_neg (by omega), if_neg c]
              exact h4.2.2.2.1 i hi
          · exact zr_ruleK (by omega) (h5.2.1 r hr) (fun _ _ _ => rfl) (fun j j1 j2 => if_pos (by omega)) rfl rfl
          · obtain ⟨a1, a2, a3⟩ := h6
            refine ⟨a1, a2, ?_⟩
            rcases a3 with a3 | ⟨b1, b2, b3, b4, b5, b6⟩
            · exact Or.inl a3
            · exact Or.inr ⟨b1, b2, b3, b4, fun j j1 j2 => (if_pos (by omega)).trans (b5 j j1 j2), b6⟩
          · exact (if_neg (by omega)).trans (hen2 z j hj)
          · obtain ⟨a1, a2, a3, a4, a5⟩ := h8
            refine ⟨a1, a2, a3, fun p hp => ?_, a5⟩
            obtain ⟨b1, b2⟩ := a4 p hp
            exact ⟨ox_Sk b1 (fun j j1 j2 => na_un (by omega)) (fun j j1 j2 => if_pos (by omega)), b2⟩
        refine zx_term50 h1.1 hqX hcap hn hms (by omega) h2.1.1 (by rw [eX n (by omega)]; exact hM) ?_ ?_ ?_
        · intro q
          exact hF _ (zy_term33 h1.1 hqY hcap hn hms (by omega) h3.1.1 (by rw [eY n (by omega)]; exact hM) (fun _ => ⟨rfl, I'⟩) (fun z => by omega) (fun z => by omega))
        · intro q q2
          exact hF _ (zy_term33 h1.1 hqY hcap hn hms (by omega) h3.1.1 (by rw [eY n (by omega)]; exact hM) (fun z => by omega) (fun _ _ => ⟨rfl, done en q (fun _ _ => rfl) (fun z => by omega)⟩) (fun _ z => by omega))
        · intro q q2 en' he1 he2
          refine hF _ (zy_term33 h1.1 hqY hcap hn hms (by omega) h3.1.1 (by rw [eY n (by omega)]; exact hM) (fun z => by omega) (fun _ z => by omega) (fun _ _ => ⟨rfl, done en' q (fun j hj => he2 j (Or.inl hj)) (fun z j hj => ?_)⟩))
          rw [he1 _ (by omega) (by omega)]
          have e1 : tx_t (na_u TX (240 + n) t) 240 (n + 1) = tx_t (na_u S n t) 0 (n + 1) := by
            rw [tx_snocl, eX n (by omega)]
            have := tx_snocl (T := S) (b := 0) (n := n) (t := t)
            rw [Nat.zero_add] at this
            rw [this]
          have hS0 := hS
          rw [z] at hS0
          have := (tx_zeq (a := ar) (x := 240) (y := 0) (j := j) (by rw [e1]; exact hS0) (by omega) e1 hj).2
          rw [Nat.zero_add] at this
          rw [this]
          omega
      -- the reference reads what is missing
      have ymiss : ∀ (n : Nat) (post : Int32 → SY → Prop), (sm = 0 → n = 0) → (sm ≠ 0 → n = sl) → wY_putTerm_33 post (nI t) (nI n) (nI cap) (nI ph) (nI R) (nI P) (nI L) (nI sl) (na_F TY) (na_F A) (na_F len) (na_F pa) rec (na_F dg) (na_F lvl) bi (na_F hd) (na_F gt) (na_F ft) (na_F pt) → wpY_putTerm post (nI cap, nI ph, nI R, nI P, nI L, nI sl, na_F TY, na_F A, na_F len, na_F pa, rec, na_F dg, na_F lvl, bi, na_F hd, na_F gt, na_F ft, na_F pt) (nI t) := by
        intro n post e0 e1 h
        refine br_f a1 (br_t l7 ?_)
        refine zy_missing (b := 112) (q := ar) h3.1.1 hqY (by omega) (m' := sm) ?_ ?_
        · rw [zr_TY h3 (by omega)]
          have := zr_SY h4 (b := 0) (n := sl) (by omega)
          rw [this]
          exact h7.2.1
        · by_cases hs : sm = 0
          · rw [e0 hs] at h
            exact br_t (by rw [hs]; rfl) h
          · rw [e1 hs] at h
            exact br_f (nI_ne0 (by omega) (by omega)) h
      by_cases hs : sm = 0
      · have C := core 0 1 (by omega) (by omega) rfl (fun post => wpY_putTerm post (nI cap, nI ph, nI R, nI P, nI L, nI sl, na_F TY, na_F A, na_F len, na_F pa, rec, na_F dg, na_F lvl, bi, na_F hd, na_F gt, na_F ft, na_F pt) (nI t)) (fun post h => ymiss 0 post (fun _ => rfl) (fun z => absurd hs z) h)
        exact br_t (by rw [hs]; rfl) (br_f (by decide) (br_f (by decide) C))
      · have C := core sl sm h7.1 (by omega) h7.2.1 (fun post => wpY_putTerm post (nI cap, nI ph, nI R, nI P, nI L, nI sl, na_F TY, na_F A, na_F len, na_F pa, rec, na_F dg, na_F lvl, bi, na_F hd, na_F gt, na_F ft, na_F pt) (nI t)) (fun post h => ymiss sl post (fun z => absurd z hs) (fun _ => rfl) h)
        exact br_f (nI_ne0 (by omega) (by omega)) (br_t rfl (br_t rfl C))
    · have l7 : ¬ nI t ≤ 7 := nI_ge (a := 7) (by omega) (by omega)
      exact br_f l7 (br_f a1 (br_f l7 ⟨rfl, I'⟩))
end
section
section
variable {x_pairSlot x_subjectBase x_filteredLeft x_filteredRight x_scratch x_allOrders x_equalMark x_termCells x_phase x_ruleCount x_pairCount x_lineCount x_defined x_openSide x_openMissing x_subjectLength x_subjectMissing : Int32} {x_tok x_end x_cut x_length x_precedences x_above x_greater x_relation x_arity x_shape x_kept x_bound x_links x_lines : Nat → Int32}
variable {y_cap y_phase y_rules y_pairs y_lines y_size : Int32} {y_m y_ar y_len y_pairAt y_rec y_digit y_level y_bind y_hide y_gt y_fit y_path : Nat → Int32}
/-- may the token be typed -/
def pr_ok (G len : Nat → Nat) (R os t : Nat) : Prop := t < 4 ∨ (os = 0 ∧ 0 < len (2 * R)) ∨ (os = 1 ∧ t ∈ tx_t G (16 * R) (len (2 * R)))
theorem zx_putA {post : Int32 → SX → Prop} {T ln G len : Nat → Nat} {R os t : Nat} (hos : os = 0 ∨ os = 1) (hR : R < 6) (ht : t < 8) (hT8 : ∀ k, T k < 8) (hT : ∀ k, k < 112 → T k = G k) (hln : ∀ i, i < 14 → ln i = len i) (h8 : len (2 * R) ≤ 8)
    (hno : ¬ pr_ok G len R os t → post (-1) (x_pairSlot, x_subjectBase, x_filteredLeft, x_filteredRight, x_scratch, x_allOrders, x_equalMark, x_termCells, nI 0, nI R, x_pairCount, x_lineCount, x_defined, nI os, x_openMissing, x_subjectLength, x_subjectMissing, na_F T, x_end, x_cut, na_F ln, x_precedences, x_above, x_greater, x_relation, x_arity, x_shape, x_kept, x_bound, x_links, x_lines))
    (hok : pr_ok G len R os t → wX_putRule_43 post (nI t) x_pairSlot x_subjectBase x_filteredLeft x_filteredRight x_scratch x_allOrders x_equalMark x_termCells (nI 0) (nI R) x_pairCount x_lineCount x_defined (nI os) x_openMissing x_subjectLength x_subjectMissing (na_F T) x_end x_cut (na_F ln) x_precedences x_above x_greater x_relation x_arity x_shape x_kept x_bound x_links x_lines) :
    wpX_putRule post (x_pairSlot, x_subjectBase, x_filteredLeft, x_filteredRight, x_scratch, x_allOrders, x_equalMark, x_termCells, nI 0, nI R, x_pairCount, x_lineCount, x_defined, nI os, x_openMissing, x_subjectLength, x_subjectMissing, na_F T, x_end, x_cut, na_F ln, x_precedences, x_above, x_greater, x_relation, x_arity, x_shape, x_kept, x_bound, x_links, x_lines) (nI t) := by
  refine br_t rfl (br_f (nI_pos (by omega)) (br_f (nI_nlt (a := 7) (by omega) (by omega)) (br_f (fun z => by have := (nI_eq (b := 6) (by omega) (by omega)).mp z; omega) ?_)))
  by_cases h3 : t ≤ 3
  · exact br_t (nI_le (b := 3) h3 (by omega)) (hok (Or.inl (by omega)))
  · refine br_f (nI_ge (a := 3) (by omega) (by omega)) ?_
    have i1 : nI R * 2 = nI (2 * R) := by rw [show 2 * R = R * 2 from Nat.mul_comm _ _, ← pk_mul]; rfl
    have el := hln (2 * R) (by omega)
    refine nm_r (e' := nI (2 * R)) i1 ?_
    rcases hos with e | e
    · subst e
      refine br_t rfl ⟨vp_in_nI (by omega) (by omega), ?_⟩
      rw [nI_clamp (by omega), na_at, el]
      by_cases h0 : len (2 * R) = 0
      · exact br_t (by rw [h0]; decide) (br_t rfl (hno (by unfold pr_ok; omega)))
      · exact br_f (nI_ge (a := 0) (by omega) (by omega)) (br_f (by decide) (hok (Or.inr (Or.inl ⟨rfl, by omega⟩))))
    · subst e
      refine br_f (by decide) ⟨len (2 * R) + 1, ?_⟩
      have key : ∀ d N i, d < N → i + d = len (2 * R) → (∀ j, j < i → G (16 * R + j) ≠ t) → wX_variableAllowed_31 (fun r_52 => (((r_52 = 0 → (post (-1) (x_pairSlot, x_subjectBase, x_filteredLeft, x_filteredRight, x_scratch, x_allOrders, x_equalMark, x_termCells, nI 0, nI R, x_pairCount, x_lineCount, x_defined, nI 1, x_openMissing, x_subjectLength, x_subjectMissing, na_F T, x_end, x_cut, na_F ln, x_precedences, x_above, x_greater, x_relation, x_arity, x_shape, x_kept, x_bound, x_links, x_lines))) ∧ (¬ r_52 = 0 → (wX_putRule_43 post (nI t) x_pairSlot x_subjectBase x_filteredLeft x_filteredRight x_scratch x_allOrders x_equalMark x_termCells (nI 0) (nI R) x_pairCount x_lineCount x_defined (nI 1) x_openMissing x_subjectLength x_subjectMissing (na_F T) x_end x_cut (na_F ln) x_precedences x_above x_greater x_relation x_arity x_shape x_kept x_bound x_links x_lines))))) (nI t) (nI (2 * R)) x_pairSlot x_subjectBase x_filteredLeft x_filteredRight x_scratch x_allOrders x_equalMark x_termCells (nI 0) (nI R) x_pairCount x_lineCount x_defined (nI 1) x_openMissing x_subjectLength x_subjectMissing (na_F T) x_end x_cut (na_F ln) x_precedences x_above x_greater x_relation x_arity x_shape x_kept x_bound x_links x_lines N (nI i) := by
        intro d
        induction d with
        | zero =>
          intro N i hN hi h
          obtain ⟨N, rfl⟩ : ∃ M, N = M + 1 := ⟨N - 1, by omega⟩
          refine ⟨vp_in_nI (by omega) (by omega), br_t ?_ (br_t rfl (hno ?_))⟩
          · rw [nI_clamp (by omega), na_at, el]
            exact nI_le (by omega) (by omega)
          · rintro (z | z | ⟨_, z⟩)
            · omega
            · omega
            · obtain ⟨j, hj, e⟩ := (tx_mem _ _).mp z
              exact h j (by omega) e
        | succ d ih =>
          intro N i hN hi h
          obtain ⟨N, rfl⟩ : ∃ M, N = M + 1 := ⟨N - 1, by omega⟩
          have ix : nI (2 * R) * 8 + nI i = nI (16 * R + i) := by
            rw [show (8 : Int32) = nI 8 from rfl, pk_mul, nI_add]
            congr 1
            omega
          have t8 : G (16 * R + i) < 8 := by rw [← hT _ (by omega)]; exact hT8 _
          refine ⟨vp_in_nI (by omega) (by omega), br_f ?_ ⟨pk_in (16 * R + i) 320 (by omega) ix, ?_⟩⟩
          · rw [nI_clamp (by omega), na_at, el]
            exact nI_ge (by omega) (by omega)
          rw [ix, nI_clamp (by omega), na_at, hT _ (by omega)]
          by_cases e : G (16 * R + i) = t
          · exact br_t (by rw [e]) (br_f (by decide) (hok (Or.inr (Or.inr ⟨rfl, (tx_mem _ _).mpr ⟨i, by omega, e⟩⟩))))
          · refine br_f (fun z => e ((nI_eq (by omega) (by omega)).mp z)) ?_
            refine nm_r (e' := nI (i + 1)) (nI_1 i) (ih N (i + 1) (by omega) (by omega) (fun j hj => ?_))
            by_cases e2 : j = i
            · rw [e2]; exact e
            · exact h j (by omega)
      exact key (len (2 * R)) _ 0 (by omega) (by omega) (fun j hj => by omega)
theorem zy_putA {post : Int32 → SY → Prop} {ar T G len : Nat → Nat} {R os om t : Nat} (hq : ∀ t, t < 8 → y_ar t = nI (ar t)) (hos : os = 0 ∨ os = 1) (hR : R < 6) (ht : t < 8) (hT8 : ∀ k, T k < 8) (hT : ∀ k, k < 112 → T k = G k) (h8 : len (2 * R) ≤ 8)
    (hM0 : os = 0 → 0 < om ∧ om < 9 ∧ tx_M ar (tx_t G (16 * R) (len (2 * R))) 1 om) (hM1 : os = 1 → tx_T ar (tx_t G (16 * R) (len (2 * R))))
    (hno : ¬ pr_ok G len R os t → post (-1) (y_cap, nI 0, nI R, y_pairs, y_lines, y_size, na_F T, y_ar, na_F len, y_pairAt, y_rec, y_digit, y_level, y_bind, y_hide, y_gt, y_fit, y_path))
    (hok : pr_ok G len R os t → wY_putRule_138 post (nI t) (nI (2 * R)) (nI (16 * R)) (nI os) y_cap (nI 0) (nI R) y_pairs y_lines y_size (na_F T) y_ar (na_F len) y_pairAt y_rec y_digit y_level y_bind y_hide y_gt y_fit y_path) :
    wpY_putRule post (y_cap, nI 0, nI R, y_pairs, y_lines, y_size, na_F T, y_ar, na_F len, y_pairAt, y_rec, y_digit, y_level, y_bind, y_hide, y_gt, y_fit, y_path) (nI t) := by
  have eT : tx_t T (16 * R) (len (2 * R)) = tx_t G (16 * R) (len (2 * R)) := tx_congr fun i hi => hT _ (by omega)
  refine br_f (by decide) (br_f (nI_pos (by omega)) (br_t (nI_le (b := 7) (by omega) (by omega)) ?_))
  refine nm_r (e' := nI (2 * R)) (pk_mul 2 R) (nm_r (e' := nI (16 * R)) (pk_mul 16 R) ⟨vp_in_nI (by omega) (by omega), ?_⟩)
  rw [nI_clamp (by omega), na_at]
  have k87 : (os = 0 → pr_ok G len R 0 t) → ∀ d N i (oc : Nat), d < N → i + d = len (2 * R) → oc < 2 → (oc = 1 ↔ ∃ j, j < i ∧ G (16 * R + j) = t) → wY_putRule_87 post (nI t) (nI (2 * R)) (nI (16 * R)) (nI os) y_cap (nI 0) (nI R) y_pairs y_lines y_size (na_F T) y_ar (na_F len) y_pairAt y_rec y_digit y_level y_bind y_hide y_gt y_fit y_path N (nI oc) (nI i) := by
    intro hpo d
    induction d with
    | zero =>
      intro N i oc hN hi ho h
      obtain ⟨N, rfl⟩ : ∃ M, N = M + 1 := ⟨N - 1, by omega⟩
      refine ⟨vp_in_nI (by omega) (by omega), br_t ?_ ?_⟩
      · rw [nI_clamp (by omega), na_at]
        exact nI_le (by omega) (by omega)
      rcases hos with e | e
      · subst e
        refine br_f (by decide) ?_
        exact hok (hpo rfl)
      · subst e
        refine br_t rfl ?_
        by_cases h4 : t < 4
        · exact br_t (nI_lt (b := 4) h4 (by omega)) (hok (Or.inl h4))
        · refine br_f (nI_nlt (b := 4) (by omega) (by omega)) ?_
          by_cases hoc : oc = 0
          · subst hoc
            refine br_t rfl (hno ?_)
            rintro (z | z | ⟨_, z⟩)
            · exact h4 z
            · omega
            · obtain ⟨j, hj, e⟩ := (tx_mem _ _).mp z
              have := h.mpr ⟨j, by omega, e⟩
              omega
          · refine br_f (nI_ne0 (by omega) (by omega)) (hok (Or.inr (Or.inr ⟨rfl, ?_⟩)))
            obtain ⟨j, hj, e⟩ := h.mp (by omega)
            exact (tx_mem _ _).mpr ⟨j, by omega, e⟩
    | succ d ih =>
      intro N i oc hN hi ho h
      obtain ⟨N, rfl⟩ : ∃ M, N = M + 1 := ⟨N - 1, by omega⟩
      have t8 : G (16 * R + i) < 8 := by rw [← hT _ (by omega)]; exact hT8 _
      refine ⟨vp_in_nI (by omega) (by omega), br_f ?_ ⟨pk_in (16 * R + i) 192 (by omega) (nI_add _ _), ?_⟩⟩
      · rw [nI_clamp (by omega), na_at]
        exact nI_ge (by omega) (by omega)
      rw [nI_add, nI_clamp (by omega), na_at, hT _ (by omega)]
      by_cases e : G (16 * R + i) = t
      · refine br_t (by rw [e]) ?_
        refine nm_r (e' := nI (i + 1)) (nI_1 i) (ih N (i + 1) 1 (by omega) (by omega) (by omega) ⟨fun _ => ⟨i, by omega, e⟩, fun _ => rfl⟩)
      · refine br_f (fun z => e ((nI_eq (by omega) (by omega)).mp z)) ?_
        refine nm_r (e' := nI (i + 1)) (nI_1 i) (ih N (i + 1) oc (by omega) (by omega) ho ?_)
        rw [h]
        constructor
        · rintro ⟨j, hj, e2⟩
          exact ⟨j, by omega, e2⟩
        · rintro ⟨j, hj, e2⟩
          by_cases e3 : j = i
          · rw [e3] at e2; exact absurd e2 e
          · exact ⟨j, by omega, e2⟩
  have k60 : (os = 0 → pr_ok G len R 0 t) → wY_putRule_60 post (nI t) (nI (2 * R)) (nI (16 * R)) y_cap (nI 0) (nI R) y_pairs y_lines y_size (na_F T) y_ar (na_F len) y_pairAt y_rec y_digit y_level y_bind y_hide y_gt y_fit y_path := by
    intro hpo
    refine ⟨vp_in_nI (by omega) (by omega), ?_⟩
    rw [nI_clamp (by omega), na_at]
    rcases hos with e | e
    · subst e
      obtain ⟨m1, m2, m3⟩ := hM0 rfl
      refine zy_missing (q := ar) (m' := om) hT8 hq (by omega) (by rw [eT]; exact m3) ?_
      exact br_f (nI_ne0 m1 (by omega)) ⟨_, k87 hpo (len (2 * R)) _ 0 0 (Nat.lt_succ_self _) (by omega) (by omega) ⟨fun z => by omega, fun ⟨j, hj, _⟩ => by omega⟩⟩
    · subst e
      refine zy_missing (q := ar) (m' := 0) hT8 hq (by omega) (by rw [eT]; exact hM1 rfl) ?_
      exact br_t rfl ⟨_, k87 hpo (len (2 * R)) _ 0 0 (Nat.lt_succ_self _) (by omega) (by omega) ⟨fun z => by omega, fun ⟨j, hj, _⟩ => by omega⟩⟩
  by_cases h0 : len (2 * R) = 0
  · refine br_t (by rw [h0]; rfl) (br_f (fun z => by have := (nI_eq (b := 6) (by omega) (by omega)).mp z; omega) ?_)
    by_cases h4 : t < 4
    · exact br_t (nI_lt (b := 4) h4 (by omega)) (k60 fun _ => Or.inl h4)
    · refine br_f (nI_nlt (b := 4) (by omega) (by omega)) (hno ?_)
      rintro (z | z | ⟨_, z⟩)
      · exact h4 z
      · omega
      · rw [h0] at z
        exact absurd z (fun z => nomatch z)
  · exact br_f (nI_ne0 (by omega) (by omega)) (k60 fun e => Or.inr (Or.inl ⟨rfl, by omega⟩))
end
end
section
section
variable {x_pairSlot x_subjectBase x_filteredLeft x_filteredRight x_scratch x_allOrders x_equalMark x_termCells x_phase x_ruleCount x_pairCount x_lineCount x_defined x_openSide x_openMissing x_subjectLength x_subjectMissing : Int32} {x_tok x_end x_cut x_length x_precedences x_above x_greater x_relation x_arity x_shape x_kept x_bound x_links x_lines : Nat → Int32}
variable {y_cap y_phase y_rules y_pairs y_lines y_size : Int32} {y_m y_ar y_len y_pairAt y_rec y_digit y_level y_bind y_hide y_gt y_fit y_path : Nat → Int32}
theorem zx_put43 {post : Int32 → SX → Prop} {ar T en ln : Nat → Nat} {R os om n t d b : Nat} (hA : fd_A ar) (hq : ∀ t, t < 8 → x_arity t = nI (ar t)) (hos : os = 0 ∨ os = 1) (hR : R < 6) (hd : d = 2 * R + os) (hb : b = 16 * R + 8 * os) (hn : ln d = n) (h8 : n + om ≤ 8) (hom : 0 < om) (ht : t < 8) (hT : ∀ k, T k < 8) (hM : tx_M ar (tx_t T b n) 1 om)
    (hbig : 8 < n + om + ar t → post (-1) (x_pairSlot, x_subjectBase, x_filteredLeft, x_filteredRight, x_scratch, x_allOrders, x_equalMark, x_termCells, x_phase, nI R, x_pairCount, x_lineCount, x_defined, nI os, nI om, x_subjectLength, x_subjectMissing, na_F T, na_F en, x_cut, na_F ln, x_precedences, x_above, x_greater, x_relation, x_arity, x_shape, x_kept, x_bound, x_links, x_lines))
    (hmore : n + om + ar t ≤ 8 → 0 < om - 1 + ar t → post 1 (x_pairSlot, x_subjectBase, x_filteredLeft, x_filteredRight, x_scratch, x_allOrders, x_equalMark, x_termCells, x_phase, nI R, x_pairCount, x_lineCount, x_defined, nI os, nI (om - 1 + ar t), x_subjectLength, x_subjectMissing, na_F (na_u T (b + n) t), na_F en, x_cut, na_F (na_u ln d (n + 1)), x_precedences, x_above, x_greater, x_relation, x_arity, x_shape, x_kept, x_bound, x_links, x_lines))
    (hside : os = 0 → n + om + ar t ≤ 8 → om - 1 + ar t = 0 → ∀ en', (∀ k, b ≤ k → k < b + (n + 1) → en' k = k + tx_z ar (na_u T (b + n) t) k) → (∀ k, k < b ∨ b + (n + 1) ≤ k → en' k = en k) →
      post 2 (x_pairSlot, x_subjectBase, x_filteredLeft, x_filteredRight, x_scratch, x_allOrders, x_equalMark, x_termCells, x_phase, nI R, x_pairCount, x_lineCount, x_defined, 1, 1, x_subjectLength, x_subjectMissing, na_F (na_u T (b + n) t), na_F en', x_cut, na_F (na_u ln d (n + 1)), x_precedences, x_above, x_greater, x_relation, x_arity, x_shape, x_kept, x_bound, x_links, x_lines))
    (hstore : os = 1 → n + om + ar t ≤ 8 → om - 1 + ar t = 0 → ∀ en', (∀ k, b ≤ k → k < b + (n + 1) → en' k = k + tx_z ar (na_u T (b + n) t) k) → (∀ k, k < b ∨ b + (n + 1) ≤ k → en' k = en k) →
      post 3 (x_pairSlot, x_subjectBase, x_filteredLeft, x_filteredRight, x_scratch, x_allOrders, x_equalMark, x_termCells, x_phase, nI (R + 1), x_pairCount, x_lineCount, x_defined, 0, 1, x_subjectLength, x_subjectMissing, na_F (na_u T (b + n) t), na_F en', x_cut, na_F (na_u ln d (n + 1)), x_precedences, x_above, x_greater, x_relation, x_arity, x_shape, x_kept, x_bound, x_links, x_lines)) :
    wX_putRule_43 post (nI t) x_pairSlot x_subjectBase x_filteredLeft x_filteredRight x_scratch x_allOrders x_equalMark x_termCells x_phase (nI R) x_pairCount x_lineCount x_defined (nI os) (nI om) x_subjectLength x_subjectMissing (na_F T) (na_F en) x_cut (na_F ln) x_precedences x_above x_greater x_relation x_arity x_shape x_kept x_bound x_links x_lines := by
  obtain ⟨m, rfl⟩ : ∃ m, om = m + 1 := ⟨om - 1, by omega⟩
  have a3 := fd_A3 hA t
  have eq := hq t ht
  have es : m + 1 - 1 = m := by omega
  rw [es] at hmore hside hstore
  have hS := tx_snoc (t := t) hM hom
  rw [es] at hS
  have e1 : R * 2 + os = d := by omega
  have e2 : d * 8 + n = b + n := by omega
  have e3 : d * 8 = b := by omega
  unfold wX_putRule_43
  simp (disch := omega) only [li_0, li_1, li_2, li_3, li_4, li_5, li_6, li_7, li_8, li_11, li_15, li_16, li_24, li_32, li_112, li_144, li_152, li_160, li_192, li_240, li_255, li_256, li_272, li_280, li_288, li_1295, li_1296, nI_add, pk_mul, pk_sub, ni_m1, nI_clamp, ni_in, nI_leI, nI_ltI, nI_eq, forall_eq, na_at, na_upd, Nat.zero_add, Nat.add_zero, eq, e1, hn, e2, e3, ni_ms]
  refine ⟨by omega, by omega, br_c (fun q => ⟨by omega, by omega, by omega, br_c (fun q2 => ?_) (fun q2 => hmore q (by omega))⟩) (fun q => hbig (by omega))⟩
  have hz : m + ar t = 0 := by omega
  refine zx_markEnds (q := ar) (na_u8 hT ht) (fd_A3 hA) (fun t ht => ⟨fun _ => hq t ht, fun z => absurd rfl z⟩) (by omega) (by omega) (by rw [hz] at hS; exact hS) ?_
  intro en' h1 h2
  rcases hos with e | e
  · subst e
    exact br_t rfl (hside rfl q hz en' h1 h2)
  · subst e
    have K := hstore rfl q hz en' h1 h2
    rw [← nI_add R 1] at K
    exact br_f (show ¬ nI 1 = nI 0 from by decide) K
theorem zy_put138 {post : Int32 → SY → Prop} {ar T len : Nat → Nat} {R os om n t d b : Nat} (hA : fd_A ar) (hq : ∀ t, t < 8 → y_ar t = nI (ar t)) (hos : os = 0 ∨ os = 1) (hR : R < 6) (hd : d = 2 * R + os) (hb : b = 16 * R + 8 * os) (hn : len d = n) (h8 : n + om ≤ 8) (hom : 0 < om) (ht : t < 8) (hT : ∀ k, T k < 8) (hM : tx_M ar (tx_t T b n) 1 om)
    (hbig : 8 < n + om + ar t → post (-1) (y_cap, y_phase, nI R, y_pairs, y_lines, y_size, na_F T, y_ar, na_F len, y_pairAt, y_rec, y_digit, y_level, y_bind, y_hide, y_gt, y_fit, y_path))
    (hmore : n + om + ar t ≤ 8 → 0 < om - 1 + ar t → post 1 (y_cap, y_phase, nI R, y_pairs, y_lines, y_size, na_F (na_u T (b + n) t), y_ar, na_F (na_u len d (n + 1)), y_pairAt, y_rec, y_digit, y_level, y_bind, y_hide, y_gt, y_fit, y_path))
    (hside : os = 0 → n + om + ar t ≤ 8 → om - 1 + ar t = 0 → post 2 (y_cap, y_phase, nI R, y_pairs, y_lines, y_size, na_F (na_u T (b + n) t), y_ar, na_F (na_u len d (n + 1)), y_pairAt, y_rec, y_digit, y_level, y_bind, y_hide, y_gt, y_fit, y_path))
    (hstore : os = 1 → n + om + ar t ≤ 8 → om - 1 + ar t = 0 → post 3 (y_cap, y_phase, nI (R + 1), y_pairs, y_lines, y_size, na_F (na_u T (b + n) t), y_ar, na_F (na_u (na_u (na_u len d (n + 1)) (2 * (R + 1)) 0) (2 * (R + 1) + 1) 0), y_pairAt, y_rec, y_digit, y_level, y_bind, y_hide, y_gt, y_fit, y_path)) :
    wY_putRule_138 post (nI t) (nI (2 * R)) (nI (16 * R)) (nI os) y_cap y_phase (nI R) y_pairs y_lines y_size (na_F T) y_ar (na_F len) y_pairAt y_rec y_digit y_level y_bind y_hide y_gt y_fit y_path := by
  have a3 := fd_A3 hA t
  have eq := hq t ht
  have hS := tx_snoc (t := t) hM hom
  have i1 : nI (2 * R) + nI os = nI d := by rw [nI_add, ← hd]
  have i2 : nI (16 * R) + 8 * nI os = nI b := by rw [show (8 : Int32) = nI 8 from rfl, pk_mul, nI_add, ← hb]
  refine ⟨by rw [i1]; exact vp_in_nI (by omega) (by omega), ?_⟩
  rw [i1, nI_clamp (by omega), na_at, hn]
  refine nm_e (nm_r (e' := nI b) i2 ?_)
  refine zy_missing hT hq (by omega) hM ?_
  have e1 : (nI n + 1 + nI om - 1 + y_ar (nI t).toNatClampNeg) = nI (n + om + ar t) := by
    rw [nI_clamp (by omega), eq, nI_1, nI_add, show nI (n + 1 + om) - 1 = nI (n + om) from by rw [show n + 1 + om = n + om + 1 by omega]; exact nI_pred _, nI_add]
  refine ⟨vp_in_nI (by omega) (by omega), ?_⟩
  rw [e1]
  by_cases q : n + om + ar t ≤ 8
  · refine br_t (nI_le (b := 8) q (by omega)) ⟨pk_in (b + n) 192 (by omega) (nI_add b n), ?_⟩
    rw [nI_add b n, nI_clamp (by omega), na_upd]
    refine nm_e ⟨vp_in_nI (by omega) (by omega), ?_⟩
    rw [nI_1, na_upd]
    refine nm_e ?_
    refine zy_missing (na_u8 hT ht) hq (by omega) hS ?_
    by_cases q2 : om - 1 + ar t = 0
    · refine br_t (by rw [q2]; decide) ?_
      rcases hos with e | e
      · subst e
        exact br_t rfl (hside rfl q q2)
      · subst e
        refine br_f (by decide) ?_
        refine nm_r (e' := nI (R + 1)) (nI_1 R) ?_
        have j1 : (2 : Int32) * nI (R + 1) = nI (2 * (R + 1)) := pk_mul 2 (R + 1)
        rw [j1, nI_1]
        refine ⟨vp_in_nI (by omega) (by omega), ?_⟩
        rw [nI_clamp (n := 2 * (R + 1)) (by omega), nI_clamp (n := 2 * (R + 1) + 1) (by omega)]
        refine nm_r (na_upd _ _ 0) ⟨vp_in_nI (by omega) (by omega), nm_r (na_upd _ _ 0) (hstore rfl q q2)⟩
    · exact br_f (nI_ge (a := 0) (by omega) (by omega)) (hmore q (by omega))
  · exact br_f (nI_ge (a := 8) (by omega) (by omega)) (hbig (by omega))
end
theorem zr_zk {ar G G' : Nat → Nat} {b n k : Nat} (hn : n ≤ 200) (h : tx_T ar (tx_t G b n)) (e : ∀ k, b ≤ k → k < b + n → G' k = G k) (h1 : b ≤ k) (h2 : k < b + n) : tx_z ar G' k = tx_z ar G k := by
  have e1 : tx_t G b n = tx_t G' b n := tx_congr fun i hi => (e _ (by omega) (by omega)).symm
  have := (tx_zeq (a := ar) (x := b) (y := b) (j := k - b) h hn e1 (by omega)).2
  rw [show b + (k - b) = k by omega] at this
  exact this.symm
theorem i_vc_putRule {k : Nat} {u : SX} {v : SY} (I : i_Rel k u v) (hk : k + 5 ≤ 2564) (v1 : Int32) : wpX_putRule (fun r u' => wpY_putRule (fun r' v' => r' = r ∧ i_Rel (k + 5) u' v') v v1) u v1 := by
  refine zr_el (Q := fun u v => wpX_putRule (fun r u' => wpY_putRule (fun r' v' => r' = r ∧ i_Rel (k + 5) u' v') v v1) u v1) ?_ I
  intro c1 c2 c3 c4 c5 c6 c7 df cap ph R P L os om sl sm ar TX en ct ln pc sh kp TY A len pa dg lvl hd gt ft pt G S TX0 en0 TY0 ab gr rl bd lk rec bi h1 h2 h3 h4 h5 h6 h7 h8 h9
  have hR := h5.1
  have hcap := h1.2.2.1
  have hsl := h7.1
  have hqX : ∀ t, t < 8 → na_F ar t = nI (ar t) := fun t _ => rfl
  have hqY : ∀ t, t < 8 → na_F A t = nI (ar t) := fun t ht => by rw [na_at, h3.1.2.2.1 t ht]
  have hln := h4.2.2.2.2.2
  have I' : i_Rel (k + 5) (c1, c2, c3, c4, c5, c6, c7, nI cap, nI ph, nI R, nI P, nI L, df, nI os, nI om, nI sl, nI sm, na_F TX, na_F en, na_F ct, na_F ln, na_F pc, ab, gr, rl, na_F ar, na_F sh, na_F kp, bd, lk, rec) (nI cap, nI ph, nI R, nI P, nI L, nI sl, na_F TY, na_F A, na_F len, na_F pa, rec, na_F dg, na_F lvl, bi, na_F hd, na_F gt, na_F ft, na_F pt) := zr_in h1 h2 h3 h4 h5 h6 h7 h8 h9
  rcases h8.1 with ⟨e1, e2, e3⟩ | ⟨e1, e2, e3⟩
  · subst e1
    subst e2
    subst e3
    by_cases a1 : v1 < 0
    · exact br_t rfl (br_t a1 (br_f (by decide) (br_t a1 ⟨rfl, I'⟩)))
    obtain ⟨t, ht31, rfl⟩ := nI_of a1
    by_cases a2 : 7 < t
    · exact br_t rfl (br_f a1 (br_t (nI_lt (a := 7) a2 ht31) (br_f (by decide) (br_f a1 (br_f (nI_ge (a := 7) (by omega) ht31) ⟨rfl, I'⟩)))))
    by_cases a3 : R = 6
    · have hl0 := h6.1 a3
      refine br_t rfl (br_f a1 (br_f (nI_nlt (a := 7) (by omega) (by omega)) (br_t (by rw [a3]; rfl) ?_)))
      refine br_f (by decide) (br_f a1 (br_t (nI_le (b := 7) (by omega) (by omega)) ?_))
      refine nm_r (e' := nI (2 * R)) (pk_mul 2 R) (nm_e ⟨vp_in_nI (by omega) (by omega), ?_⟩)
      rw [nI_clamp (by omega), na_at, hl0]
      exact br_t rfl (br_t (by rw [a3]; rfl) ⟨rfl, I'⟩)
    have hos : os = 0 ∨ os = 1 := by
      rcases h6.2.2 with ⟨z, _⟩ | ⟨z, _⟩
      · exact Or.inl z
      · exact Or.inr z
    have hom := h6.2.1
    have hlen8 : len (2 * R) ≤ 8 := by
      rcases h6.2.2 with ⟨_, _, b, _⟩ | ⟨_, b, _⟩
      · omega
      · exact b
    have hTG : ∀ k, k < 112 → TX k = G k := fun k hk => by rw [h2.1.2.1 k (by omega), h4.1 k hk]
    have hYG : ∀ k, k < 112 → TY k = G k := fun k hk => by rw [h3.1.2.1 k (by omega), h4.2.2.1 k hk]
    have hM0 : os = 0 → 0 < om ∧ om < 9 ∧ tx_M ar (tx_t G (16 * R) (len (2 * R))) 1 om := by
      intro e
      rcases h6.2.2 with ⟨_, _, b, c, _⟩ | ⟨z, _⟩
      · exact ⟨hom, by omega, c⟩
      · omega
    have hM1 : os = 1 → tx_T ar (tx_t G (16 * R) (len (2 * R))) := by
      intro e
      rcases h6.2.2 with ⟨z, _⟩ | ⟨_, _, c, _⟩
      · omega
      · exact c
    -- the unfinished side
    have hside : len (2 * R + os) + om ≤ 8 ∧ tx_M ar (tx_t G (16 * R + 8 * os) (len (2 * R + os))) 1 om := by
      rcases h6.2.2 with ⟨e, _, b, c, _⟩ | ⟨e, _, _, _, _, b, c, _⟩
      · subst e
        exact ⟨b, c⟩
      · subst e
        exact ⟨b, c⟩
    have yno : ¬ pr_ok G len R os t → wpY_putRule (fun r' v' => r' = -1 ∧ i_Rel (k + 5) (c1, c2, c3, c4, c5, c6, c7, nI cap, nI 0, nI R, nI 0, nI 0, df, nI os, nI om, nI sl, nI sm, na_F TX, na_F en, na_F ct, na_F ln, na_F pc, ab, gr, rl, na_F ar, na_F sh, na_F kp, bd, lk, rec) v') (nI cap, nI 0, nI R, nI 0, nI 0, nI sl, na_F TY, na_F A, na_F len, na_F pa, rec, na_F dg, na_F lvl, bi, na_F hd, na_F gt, na_F ft, na_F pt) (nI t) := fun z =>
      zy_putA hqY hos (by omega) (by omega) h3.1.1 hYG hlen8 hM0 hM1 (fun _ => ⟨rfl, I'⟩) (fun z2 => absurd z2 z)
    refine zx_putA hos (by omega) (by omega) h2.1.1 hTG hln hlen8 yno ?_
    intro hok
    obtain ⟨w1, w2, w3, w4, w5, w6⟩ := h2.1
    have eX : tx_t TX (16 * R + 8 * os) (len (2 * R + os)) = tx_t G (16 * R + 8 * os) (len (2 * R + os)) := tx_congr fun i hi => hTG _ (by omega)
    have eY : tx_t TY (16 * R + 8 * os) (len (2 * R + os)) = tx_t G (16 * R + 8 * os) (len (2 * R + os)) := tx_congr fun i hi => hYG _ (by omega)
    have hSn := tx_snoc (t := t) hside.2 hom
    -- the reference behind the check
    have y138 : ∀ (post : Int32 → SY → Prop), wY_putRule_138 post (nI t) (nI (2 * R)) (nI (16 * R)) (nI os) (nI cap) (nI 0) (nI R) (nI 0) (nI 0) (nI sl) (na_F TY) (na_F A) (na_F len) (na_F pa) rec (na_F dg) (na_F lvl) bi (na_F hd) (na_F gt) (na_F ft) (na_F pt) → wpY_putRule post (nI cap, nI 0, nI R, nI 0, nI 0, nI sl, na_F TY, na_F A, na_F len, na_F pa, rec, na_F dg, na_F lvl, bi, na_F hd, na_F gt, na_F ft, na_F pt) (nI t) := fun post h =>
      zy_putA hqY hos (by omega) (by omega) h3.1.1 hYG hlen8 hM0 hM1 (fun z => absurd hok z) (fun _ => h)
    -- parts of the new relation that are alike
    have n2 : ∀ en0', zr_2 (na_u TX0 (16 * R + 8 * os + len (2 * R + os)) t) en0' (na_u TX (16 * R + 8 * os + len (2 * R + os)) t) en0' ct sh kp gr := fun en0' =>
      ⟨⟨na_u8 w1 (by omega), fun j hj => by
        unfold na_u
        split
        · rfl
        · exact w2 j hj, fun _ _ => rfl, w4, w5, w6⟩, h2.2⟩
    have n3 : zr_3 ar (na_u TY0 (16 * R + 8 * os + len (2 * R + os)) t) (na_u TY (16 * R + 8 * os + len (2 * R + os)) t) A dg hd gt ft pt :=
      ⟨⟨na_u8 h3.1.1 (by omega), fun j hj => by
        unfold na_u
        split
        · rfl
        · exact h3.1.2.1 j hj, h3.1.2.2⟩, h3.2⟩
    have n4 : ∀ ln' len', (∀ i, i < 14 → ln' i = len' i) → zr_4 (na_u G (16 * R + 8 * os + len (2 * R + os)) t) S (na_u TX0 (16 * R + 8 * os + len (2 * R + os)) t) (na_u TY0 (16 * R + 8 * os + len (2 * R + os)) t) ln' len' := fun ln' len' h =>
      ⟨fun j hj => by
        unfold na_u
        split
        · rfl
        · exact h4.1 j hj, fun i hi => by rw [na_un (by omega)]; exact h4.2.1 i hi, fun j hj => by
        unfold na_u
        split
        · rfl
        · exact h4.2.2.1 j hj, fun i hi => by rw [na_un (by omega)]; exact h4.2.2.2.1 i hi, na_u8 h4.2.2.2.2.1 (by omega), h⟩
    have n7 : ∀ en0', (∀ k, 240 ≤ k → k < 272 → en0' k = en0 k) → zr_7 ar S en0' cap sl sm := fun en0' h =>
      ⟨h7.1, h7.2.1, fun z j hj => by rw [h _ (by omega) (by omega)]; exact h7.2.2.1 z j hj, h7.2.2.2⟩
    have nru : ∀ (en0' len' : Nat → Nat), (∀ k, k < 16 * R → en0' k = en0 k) → (∀ i, i < 2 * R → len' i = len i) → ∀ r, r < R → zr_rule ar (na_u G (16 * R + 8 * os + len (2 * R + os)) t) en0' len' r := fun en0' len' q1 q2 r hr =>
      zr_ruleK (by omega) (h5.2.1 r hr) (fun j j1 j2 => na_un (by omega)) (fun j j1 j2 => q1 j (by omega)) (q2 _ (by omega)) (q2 _ (by omega))
    refine zx_put43 (n := len (2 * R + os)) (d := 2 * R + os) (b := 16 * R + 8 * os) h1.1 hqX hos (by omega) rfl rfl (hln _ (by omega)) hside.1 hom (by omega) w1 (by rw [eX]; exact hside.2) ?_ ?_ ?_ ?_
    · intro q
      refine y138 _ (zy_put138 (om := om) (n := len (2 * R + os)) (d := 2 * R + os) (b := 16 * R + 8 * os) h1.1 hqY hos (by omega) rfl rfl rfl hside.1 hom (by omega) h3.1.1 (by rw [eY]; exact hside.2) (fun _ => ⟨rfl, I'⟩) (fun z => by omega) (fun _ z => by omega) (fun _ z => by omega))
    · -- more is missing
      intro q q2
      refine y138 _ (zy_put138 (om := om) (n := len (2 * R + os)) (d := 2 * R + os) (b := 16 * R + 8 * os) h1.1 hqY hos (by omega) rfl rfl rfl hside.1 hom (by omega) h3.1.1 (by rw [eY]; exact hside.2) (fun z => by omega) (fun _ _ => ⟨rfl, ?_⟩) (fun _ _ z => by omega) (fun _ _ z => by omega))
      refine zr_in (ph := 0) (P := 0) (L := 0) (G := na_u G (16 * R + 8 * os + len (2 * R + os)) t) (TX0 := na_u TX0 (16 * R + 8 * os + len (2 * R + os)) t) (TY0 := na_u TY0 (16 * R + 8 * os + len (2 * R + os)) t) (en0 := en) h1 (n2 en) n3 (n4 _ _ (fun i hi => ?_)) ⟨hR, nru en _ (fun j hj => w3 j (by omega)) (fun i hi => na_un (by omega)), fun i hi1 hi2 => ?_⟩ ⟨fun z => absurd z a3, q2, ?_⟩ (n7 en (fun j j1 j2 => w3 j (by omega))) zr_8l zr_9l
      · unfold na_u
        split
        · rfl
        · exact hln i hi
      · rw [na_un (by omega)]
        exact h5.2.2 i hi1 hi2
      · rcases h6.2.2 with ⟨e, b1, b2, b3, b4⟩ | ⟨e, b1, b2, b3, b4, b5, b6, b7⟩
        · subst e
          left
          refine ⟨rfl, by rw [na_un (by omega)]; exact b1, ?_, ?_, fun _ => ?_⟩
          · show na_u len (2 * R) (len (2 * R) + 1) (2 * R) + _ ≤ 8
            rw [na_us]
            have : len (2 * R + 0) = len (2 * R) := rfl
            omega
          · show tx_M ar (tx_t (na_u G (16 * R + len (2 * R)) t) (16 * R) (na_u len (2 * R) (len (2 * R) + 1) (2 * R))) 1 (om - 1 + ar t)
            rw [na_us]
            exact hSn
          · show na_u G (16 * R + len (2 * R)) t (16 * R) < 4
            by_cases z : len (2 * R) = 0
            · rw [z, Nat.add_zero, na_us]
              rcases hok with z2 | z2 | z2
              · exact z2
              · omega
              · omega
            · rw [na_un (by omega)]
              exact b4 (by omega)
        · subst e
          right
          have eLL : zr_LL (na_u G (16 * R + 8 * 1 + len (2 * R + 1)) t) (na_u len (2 * R + 1) (len (2 * R + 1) + 1)) R = zr_LL G len R := by
            unfold zr_LL
            rw [na_un (by omega)]
            exact tx_congr fun i hi => na_un (by omega)
          have eRR : zr_RR (na_u G (16 * R + 8 * 1 + len (2 * R + 1)) t) (na_u len (2 * R + 1) (len (2 * R + 1) + 1)) R = zr_RR G len R ++ [t] := by
            unfold zr_RR
            rw [na_us]
            exact tx_snocl
          refine ⟨rfl, by rw [na_un (by omega)]; exact b1, by rw [eLL]; exact b2, by rw [na_un (by omega)]; exact b3, fun j j1 j2 => ?_, by rw [na_us]; omega, ?_, fun v hv h4 => ?_⟩
          · rw [na_un (by omega)] at j2
            rw [w3 j (by omega), b4 j j1 j2]
            have := zr_zk (ar := ar) (G := G) (G' := na_u G (16 * R + 8 * 1 + len (2 * R + 1)) t) (b := 16 * R) (n := len (2 * R)) (k := j) (by omega) b2 (fun k k1 k2 => na_un (by omega)) j1 j2
            rw [this]
          · unfold zr_RR
            rw [na_us]
            exact hSn
          · rw [eLL]
            rw [eRR] at hv
            rcases List.mem_append.mp hv with hv | hv
            · exact b7 v hv h4
            · have ev := List.mem_singleton.mp hv
              subst ev
              rcases hok with z2 | z2 | z2
              · omega
              · omega
              · exact z2.2
    · -- the left side is complete
      intro e q q2 en' he1 he2
      subst e
      refine y138 _ (zy_put138 (om := om) (n := len (2 * R + 0)) (d := 2 * R + 0) (b := 16 * R + 8 * 0) h1.1 hqY hos (by omega) rfl rfl rfl hside.1 hom (by omega) h3.1.1 (by rw [eY]; exact hside.2) (fun z => by omega) (fun _ z => by omega) (fun _ _ _ => ⟨rfl, ?_⟩) (fun z => by omega))
      have b1 : len (2 * R + 1) = 0 := by
        rcases h6.2.2 with ⟨_, b1, _⟩ | ⟨z, _⟩
        · exact b1
        · omega
      have b4 : 0 < len (2 * R) → G (16 * R) < 4 := by
        rcases h6.2.2 with ⟨_, _, _, _, b4⟩ | ⟨z, _⟩
        · exact b4
        · omega
      rw [q2] at hSn
      have l0 : len (2 * R + 0) = len (2 * R) := rfl
      refine zr_in (ph := 0) (P := 0) (L := 0) (os := 1) (om := 1) (G := na_u G (16 * R + 8 * 0 + len (2 * R + 0)) t) (TX0 := na_u TX0 (16 * R + 8 * 0 + len (2 * R + 0)) t) (TY0 := na_u TY0 (16 * R + 8 * 0 + len (2 * R + 0)) t) (en0 := en') h1 (n2 en') n3 (n4 _ _ (fun i hi => ?_)) ⟨hR, nru en' _ (fun j hj => by rw [he2 j (Or.inl (by omega)), w3 j (by omega)]) (fun i hi => na_un (by omega)), fun i hi1 hi2 => ?_⟩ ⟨fun z => absurd z a3, by omega, Or.inr ⟨rfl, ?_, ?_, ?_, fun j j1 j2 => ?_, ?_, ?_, ?_⟩⟩ (n7 en' (fun j j1 j2 => by rw [he2 j (Or.inr (by omega)), w3 j (by omega)])) zr_8l zr_9l
      · unfold na_u
        split
        · rfl
        · exact hln i hi
      · rw [na_un (by omega)]
        exact h5.2.2 i hi1 hi2
      · show na_u len (2 * R) (len (2 * R) + 1) (2 * R) ≤ 8
        rw [na_us]
        omega
      · show tx_T ar (tx_t (na_u G (16 * R + len (2 * R)) t) (16 * R) (na_u len (2 * R) (len (2 * R) + 1) (2 * R)))
        rw [na_us]
        exact hSn
      · show na_u G (16 * R + len (2 * R)) t (16 * R) < 4
        by_cases z : len (2 * R) = 0
        · rw [z, Nat.add_zero, na_us]
          rcases hok with z2 | z2 | z2
          · exact z2
          · omega
          · omega
        · rw [na_un (by omega)]
          exact b4 (by omega)
      · have j2' : j < 16 * R + na_u len (2 * R) (len (2 * R) + 1) (2 * R) := j2
        rw [na_us] at j2'
        rw [he1 j (by omega) (by omega)]
        have eXG : ∀ k, 16 * R ≤ k → k < 16 * R + (len (2 * R) + 1) → na_u TX (16 * R + 8 * 0 + len (2 * R + 0)) t k = na_u G (16 * R + 8 * 0 + len (2 * R + 0)) t k := by
          intro k k1 k2
          unfold na_u
          split
          · rfl
          · exact hTG k (by omega)
        have := zr_zk (ar := ar) (G := na_u G (16 * R + 8 * 0 + len (2 * R + 0)) t) (G' := na_u TX (16 * R + 8 * 0 + len (2 * R + 0)) t) (b := 16 * R) (n := len (2 * R) + 1) (k := j) (by omega) hSn eXG j1 (by omega)
        rw [this]
      · rw [na_un (by omega), b1]
        omega
      · unfold zr_RR
        rw [na_un (by omega), b1]
        exact rfl
      · intro v hv
        unfold zr_RR at hv
        rw [na_un (by omega), b1] at hv
        exact absurd hv (fun z => nomatch z)
    · -- the rule is stored
      intro e q q2 en' he1 he2
      subst e
      refine y138 _ (zy_put138 (om := om) (n := len (2 * R + 1)) (d := 2 * R + 1) (b := 16 * R + 8 * 1) h1.1 hqY hos (by omega) rfl rfl rfl hside.1 hom (by omega) h3.1.1 (by rw [eY]; exact hside.2) (fun z => by omega) (fun _ z => by omega) (fun z => by omega) (fun _ _ _ => ⟨rfl, ?_⟩))
      rw [q2] at hSn
      obtain ⟨b1, b2, b3, b4, b7⟩ : len (2 * R) ≤ 8 ∧ tx_T ar (zr_LL G len R) ∧ G (16 * R) < 4 ∧ (∀ k, 16 * R ≤ k → k < 16 * R + len (2 * R) → en0 k = k + tx_z ar G k) ∧ (∀ v, v ∈ zr_RR G len R → 4 ≤ v → v ∈ zr_LL G len R) := by
        rcases h6.2.2 with ⟨z, _⟩ | ⟨_, b1, b2, b3, b4, b5, b6, b7⟩
        · omega
        · exact ⟨b1, b2, b3, b4, b7⟩
      have l2 : ∀ i, na_u (na_u (na_u len (2 * R + 1) (len (2 * R + 1) + 1)) (2 * (R + 1)) 0) (2 * (R + 1) + 1) 0 i = na_u len (2 * R + 1) (len (2 * R + 1) + 1) i := by
        intro i
        by_cases c1 : i = 2 * (R + 1) + 1
        · rw [c1, na_us, na_un (by omega)]
          exact (h5.2.2 _ (by omega) (by omega)).symm
        · rw [na_un c1]
          by_cases c2 : i = 2 * (R + 1)
          · rw [c2, na_us, na_un (by omega)]
            exact (h5.2.2 _ (by omega) (by omega)).symm
          · rw [na_un c2]
      have l2f : na_u (na_u (na_u len (2 * R + 1) (len (2 * R + 1) + 1)) (2 * (R + 1)) 0) (2 * (R + 1) + 1) 0 = na_u len (2 * R + 1) (len (2 * R + 1) + 1) := funext l2
      rw [l2f]
      have eLL : zr_LL (na_u G (16 * R + 8 * 1 + len (2 * R + 1)) t) (na_u len (2 * R + 1) (len (2 * R + 1) + 1)) R = zr_LL G len R := by
        unfold zr_LL
        rw [na_un (by omega)]
        exact tx_congr fun i hi => na_un (by omega)
      have eRR : zr_RR (na_u G (16 * R + 8 * 1 + len (2 * R + 1)) t) (na_u len (2 * R + 1) (len (2 * R + 1) + 1)) R = zr_RR G len R ++ [t] := by
        unfold zr_RR
        rw [na_us]
        exact tx_snocl
      refine zr_in (ph := 0) (P := 0) (L := 0) (os := 0) (om := 1) (R := R + 1) (G := na_u G (16 * R + 8 * 1 + len (2 * R + 1)) t) (TX0 := na_u TX0 (16 * R + 8 * 1 + len (2 * R + 1)) t) (TY0 := na_u TY0 (16 * R + 8 * 1 + len (2 * R + 1)) t) (en0 := en') h1 (n2 en') n3 (n4 _ _ (fun i hi => ?_)) ⟨by omega, fun r hr => ?_, fun i hi1 hi2 => ?_⟩ ⟨fun _ => ?_, by omega, Or.inl ⟨rfl, ?_, ?_, ?_, ?_⟩⟩ (n7 en' (fun j j1 j2 => by rw [he2 j (Or.inr (by omega)), w3 j (by omega)])) zr_8l zr_9l
      · unfold na_u
        split
        · rfl
        · exact hln i hi
      · by_cases c : r = R
        · subst c
          refine ⟨by rw [na_un (by omega)]; exact b1, by rw [na_us]; omega, by rw [eLL]; exact b2, ?_, by rw [na_un (by omega)]; exact b3, fun v hv h4 => ?_, fun j j1 j2 => ?_, fun j j1 j2 => ?_⟩
          · unfold zr_RR
            rw [na_us]
            exact hSn
          · rw [eLL]
            rw [eRR] at hv
            rcases List.mem_append.mp hv with hv | hv
            · exact b7 v hv h4
            · have ev := List.mem_singleton.mp hv
              subst ev
              rcases hok with z2 | z2 | z2
              · omega
              · omega
              · exact z2.2
          · rw [na_un (by omega)] at j2
            rw [he2 j (Or.inl (by omega)), w3 j (by omega), b4 j j1 j2]
            have := zr_zk (ar := ar) (G := G) (G' := na_u G (16 * r + 8 * 1 + len (2 * r + 1)) t) (b := 16 * r) (n := len (2 * r)) (k := j) (by omega) b2 (fun k k1 k2 => na_un (by omega)) j1 j2
            rw [this]
          · rw [na_us] at j2
            rw [he1 j (by omega) (by omega)]
            have eXG : ∀ k, 16 * r + 8 ≤ k → k < 16 * r + 8 + (len (2 * r + 1) + 1) → na_u TX (16 * r + 8 * 1 + len (2 * r + 1)) t k = na_u G (16 * r + 8 * 1 + len (2 * r + 1)) t k := by
              intro k k1 k2
              unfold na_u
              split
              · rfl
              · exact hTG k (by omega)
            have := zr_zk (ar := ar) (G := na_u G (16 * r + 8 * 1 + len (2 * r + 1)) t) (G' := na_u TX (16 * r + 8 * 1 + len (2 * r + 1)) t) (b := 16 * r + 8) (n := len (2 * r + 1) + 1) (k := j) (by omega) hSn eXG j1 j2
            rw [this]
        · exact nru en' _ (fun j hj => by rw [he2 j (Or.inl (by omega)), w3 j (by omega)]) (fun i hi => na_un (by omega)) r (by omega)
      · rw [na_un (by omega)]
        exact h5.2.2 i (by omega) hi2
      · rw [na_un (by omega)]
        exact h5.2.2 _ (by omega) (by omega)
      · rw [na_un (by omega)]
        exact h5.2.2 _ (by omega) (by omega)
      · rw [na_un (by omega), h5.2.2 _ (by omega) (by omega)]
        omega
      · unfold zr_LL
        rw [na_un (by omega), h5.2.2 (2 * (R + 1)) (by omega) (by omega)]
        exact rfl
      · intro z
        rw [na_un (by omega), h5.2.2 _ (by omega) (by omega)] at z
        omega
  · subst e1
    exact br_f (by decide) (br_t rfl ⟨rfl, I'⟩)
end
section
section
variable {x_pairSlot x_subjectBase x_filteredLeft x_filteredRight x_scratch x_allOrders x_equalMark x_termCells x_phase x_ruleCount x_pairCount x_lineCount x_defined x_openSide x_openMissing x_subjectLength x_subjectMissing : Int32} {x_tok x_end x_cut x_length x_precedences x_above x_greater x_relation x_arity x_shape x_kept x_bound x_links x_lines : Nat → Int32}
theorem zx_i231 {post : SX → Prop} (hp : ∀ sh pc ab, (∀ t, t < 8 → 4 ≤ t → sh t = 4) → pl_P pc → pl_A ab → post (x_pairSlot, x_subjectBase, x_filteredLeft, x_filteredRight, x_scratch, x_allOrders, x_equalMark, x_termCells, x_phase, x_ruleCount, x_pairCount, x_lineCount, x_defined, x_openSide, x_openMissing, x_subjectLength, x_subjectMissing, x_tok, x_end, x_cut, x_length, na_F pc, ab, x_greater, x_relation, x_arity, na_F sh, x_kept, x_bound, x_links, x_lines)) :
    ∀ d N v sh, d < N → v + d = 8 → 4 ≤ v → (∀ w, 4 ≤ w → w < v → sh w = 4) → wX_init_231 post x_pairSlot x_subjectBase x_filteredLeft x_filteredRight x_scratch x_allOrders x_equalMark x_termCells x_phase x_ruleCount x_pairCount x_lineCount x_defined x_openSide x_openMissing x_subjectLength x_subjectMissing N (nI v) x_tok x_end x_cut x_length (na_F (fun _ => 0)) (na_F (fun _ => 0)) x_greater x_relation x_arity (na_F sh) x_kept x_bound x_links x_lines := by
  intro d
  induction d with
  | zero =>
    intro N v sh hN hv h4 h
    obtain ⟨N, rfl⟩ : ∃ M, N = M + 1 := ⟨N - 1, by omega⟩
    refine br_t (nI_le (a := 8) (by omega) (by omega)) ?_
    refine zx_listPrec ?_
    intro pc ab h1 h2
    exact hp sh pc ab (fun t ht h4 => h t h4 (by omega)) h1 h2
  | succ d ih =>
    intro N v sh hN hv h4 h
    obtain ⟨N, rfl⟩ : ∃ M, N = M + 1 := ⟨N - 1, by omega⟩
    refine br_f (nI_ge (b := 8) (by omega) (by omega)) ⟨vp_in_nI (by omega) (by omega), ?_⟩
    rw [nI_clamp (by omega)]
    refine nm_r (na_upd sh v 4) (nm_r (e' := nI (v + 1)) (nI_1 v) (ih N (v + 1) _ (by omega) (by omega) (by omega) (fun w hw1 hw2 => ?_)))
    by_cases e : w = v
    · rw [e, na_us]
    · rw [na_un e]
      exact h w hw1 (by omega)
end
theorem i_vc0 (k0 : Int32) (k1 : Int32) (k2 : Int32) (k3 : Int32) : wpX_init (fun u => wpY_init (fun v => i_Rel 4 u v) k0 k1 k2 k3) k0 k1 k2 k3 := by
  obtain ⟨a1, _, b1, F1⟩ := zc_cl k0 0 1 (by omega) (by omega)
  obtain ⟨a2, _, b2, F2⟩ := zc_cl k1 0 2 (by omega) (by omega)
  obtain ⟨a3, _, b3, F3⟩ := zc_cl k2 0 2 (by omega) (by omega)
  obtain ⟨cap, c1, c2, F4⟩ := zc_cl k3 8 32 (by omega) (by omega)
  have hA : fd_A (na_u (na_u (na_u (fun _ => 0) 1 a1) 2 a2) 3 a3) := by
    refine ⟨rfl, ?_, ?_, ?_, fun t ht => ?_⟩
    · rw [na_un (by omega), na_un (by omega), na_us]; exact b1
    · rw [na_un (by omega), na_us]; exact b2
    · rw [na_us]; exact b3
    · rw [na_un (by omega), na_un (by omega), na_un (by omega)]
  refine zx_clamp (lo := 0) (hi := 1) F1 ?_
  refine nm_r (na_upd (fun _ => 0) 1 a1) ?_
  refine zx_clamp (lo := 0) (hi := 2) F2 ?_
  refine nm_r (na_upd _ 2 a2) ?_
  refine zx_clamp (lo := 0) (hi := 2) F3 ?_
  refine nm_r (na_upd _ 3 a3) ?_
  refine zx_clamp (lo := 8) (hi := 32) F4 ?_
  refine ⟨5, ?_⟩
  refine zx_i231 ?_ 4 5 4 (fun _ => 0) (by omega) (by omega) (by omega) (fun w h1 h2 => by omega)
  intro sh pc ab hsh hpc hab
  refine F1 (fun z => wY_init_123 _ k1 k2 k3 z 1 0 0 0 0 0 0 (fun _ => 0) (fun _ => 0) (fun _ => 0) (fun _ => 0) (fun _ => 0) (fun _ => 0) (fun _ => 0) (fun _ => 0) (fun _ => 0) (fun _ => 0) (fun _ => 0) (fun _ => 0)) ?_
  refine ⟨vp_in_nI (n := 1) (by omega) (by omega), nm_r (na_upd (fun _ => 0) 1 a1) ?_⟩
  refine F2 (fun z => wY_init_147 _ k2 k3 z 2 0 0 0 0 0 0 (fun _ => 0) (na_F (na_u (fun _ => 0) 1 a1)) (fun _ => 0) (fun _ => 0) (fun _ => 0) (fun _ => 0) (fun _ => 0) (fun _ => 0) (fun _ => 0) (fun _ => 0) (fun _ => 0) (fun _ => 0)) ?_
  refine ⟨vp_in_nI (n := 2) (by omega) (by omega), nm_r (na_upd _ 2 a2) ?_⟩
  refine F3 (fun z => wY_init_171 _ k3 z 3 0 0 0 0 0 0 (fun _ => 0) (na_F (na_u (na_u (fun _ => 0) 1 a1) 2 a2)) (fun _ => 0) (fun _ => 0) (fun _ => 0) (fun _ => 0) (fun _ => 0) (fun _ => 0) (fun _ => 0) (fun _ => 0) (fun _ => 0) (fun _ => 0)) ?_
  refine ⟨vp_in_nI (n := 3) (by omega) (by omega), nm_r (na_upd _ 3 a3) ?_⟩
  refine F4 (fun z => i_Rel 4 _ (z, 0, 0, 0, 0, 0, (fun _ => 0), (na_F (na_u (na_u (na_u (fun _ => 0) 1 a1) 2 a2) 3 a3)), (fun _ => 0), (fun _ => 0), (fun _ => 0), (fun _ => 0), (fun _ => 0), (fun _ => 0), (fun _ => 0), (fun _ => 0), (fun _ => 0), (fun _ => 0))) ?_
  refine zr_in (cap := cap) (ph := 0) (R := 0) (P := 0) (L := 0) (os := 0) (om := 1) (sl := 0) (sm := 1) (ar := na_u (na_u (na_u (fun _ => 0) 1 a1) 2 a2) 3 a3) (TX := fun _ => 0) (en := fun _ => 0) (ct := fun _ => 0) (ln := fun _ => 0) (pc := pc) (sh := sh) (kp := fun _ => 0) (TY := fun _ => 0) (A := na_u (na_u (na_u (fun _ => 0) 1 a1) 2 a2) 3 a3) (len := fun _ => 0) (pa := fun _ => 0) (dg := fun _ => 0) (lvl := fun _ => 0) (hd := fun _ => 0) (gt := fun _ => 0) (ft := fun _ => 0) (pt := fun _ => 0) (G := fun _ => 0) (S := fun _ => 0) (TX0 := fun _ => 0) (en0 := fun _ => 0) (TY0 := fun _ => 0)
    ⟨hA, c1, c2, hpc, hab⟩ ⟨⟨fun _ => Nat.succ_pos _, fun _ _ => rfl, fun _ _ => rfl, fun _ => Nat.succ_pos _, fun _ _ => rfl, fun _ o _ _ => b_0 o⟩, fun t ht h4 => ⟨hsh t ht h4, rfl⟩⟩ ⟨⟨fun _ => Nat.succ_pos _, fun _ _ => rfl, fun _ _ => rfl, fun t h1 h2 => ?_, fun _ _ _ => rfl, fun _ => Nat.succ_pos _, fun _ => Nat.succ_pos _⟩, fun _ => Nat.succ_pos _, fun _ => Nat.succ_pos _⟩ ⟨fun _ _ => rfl, fun _ _ => rfl, fun _ _ => rfl, fun _ _ => rfl, fun _ => Nat.succ_pos _, fun _ _ => rfl⟩ ⟨by omega, fun r hr => absurd hr (Nat.not_lt_zero r), fun _ _ _ => rfl⟩ ⟨fun _ => rfl, by omega, Or.inl ⟨rfl, rfl, (by show (0 : Nat) + 1 ≤ 8; omega), rfl, fun z => absurd z (by decide)⟩⟩ ⟨by omega, rfl, fun z => absurd z (by omega), fun _ => Nat.succ_pos _⟩ zr_8l zr_9l
  rw [na_un (by omega), na_un (by omega), na_un (by omega)]
end
