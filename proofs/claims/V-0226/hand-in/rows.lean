section
/-! pure rows to paste: stores, nI and lN arithmetic, masks, shifts, narrowing, branches by naturals (pk_le, pk_lt, pk_eq), loops (lp1 .. lp16: the measure of the state; rp1 ..: recursion), negatives. Take what you need -/
theorem pk_us {f : Nat → Int32} {k : Nat} {x : Int32} : upd f k x k = x := if_pos rfl
theorem pk_un {f : Nat → Int32} {k j : Nat} {x : Int32} (h : j ≠ k) : upd f k x j = f j := if_neg h
theorem pk_uLs {f : Nat → Int64} {k : Nat} {x : Int64} : vp_updL f k x k = x := if_pos rfl
theorem pk_uLn {f : Nat → Int64} {k j : Nat} {x : Int64} (h : j ≠ k) : vp_updL f k x j = f j := if_neg h
theorem pk_sub {a b : Nat} (h : b ≤ a) : nI a - nI b = nI (a - b) := by
  obtain ⟨c, rfl⟩ : ∃ c, a = c + b := ⟨a - b, by omega⟩
  rw [← nI_add, Int32.add_sub_cancel, Nat.add_sub_cancel]
theorem pk_m1 (n : Nat) : nI (n + 1) + (-1) = nI n := by
  rw [← nI_1, Int32.add_assoc, show (1 : Int32) + (-1) = 0 from rfl, Int32.add_zero]
theorem pk_mul (a b : Nat) : nI a * nI b = nI (a * b) := (Int32.ofNat_mul a b).symm
theorem pk_div {a d : Nat} (ha : a < 2 ^ 31) (h0 : 0 < d) (hd : d < 2 ^ 31) : nI a / nI d = nI (a / d) := by
  apply Int32.toInt_inj.mp
  rw [lg_idiv_nonneg (by rw [nI_toInt ha]; omega) (by rw [nI_toInt hd]; omega), nI_toInt ha, nI_toInt hd, nI_toInt (Nat.lt_of_le_of_lt (Nat.div_le_self a d) ha)]
  first | rfl | exact (Int.natCast_ediv _ _).symm
theorem pk_rem {a d : Nat} (ha : a < 2 ^ 31) (h0 : 0 < d) (hd : d < 2 ^ 31) : nI a - nI a / nI d * nI d = nI (a % d) := by
  rw [pk_div ha h0 hd, pk_mul, pk_sub (Nat.div_mul_le_self a d)]
  exact congrArg nI (by have := Nat.div_add_mod' a d; omega)
theorem pk_sub_toInt {a b : Nat} (ha : a < 2 ^ 30) (hb : b < 2 ^ 30) : (nI a - nI b).toInt = (a : Int) - b := by
  rw [Int32.toInt_sub, nI_toInt (by omega), nI_toInt (by omega)]
  exact Int.bmod_eq_of_le (by omega) (by omega)
theorem pk_sneg {a b : Nat} (hb : b < 2 ^ 30) (h : a < b) : nI a - nI b < 0 := by
  rw [Int32.lt_iff_toInt_lt, pk_sub_toInt (by omega) hb, show (0 : Int32).toInt = 0 from by decide]
  omega
theorem pk_ix (x : Int32) {n : Nat} (hn : n < 2 ^ 31) : x < 0 ∨ nI n ≤ x ∨ ∃ j : Nat, j < n ∧ x = nI j := by
  by_cases h : x < 0
  · exact Or.inl h
  · obtain ⟨j, hj, rfl⟩ := nI_of h
    by_cases h2 : j < n
    · exact Or.inr (Or.inr ⟨j, h2, rfl⟩)
    · exact Or.inr (Or.inl (nI_le (by omega) hj))
theorem pk_le {x y : Int32} {A B : Prop} (a b : Nat) (f : a ≤ b → A) (g : b < a → B) (hx : x = nI a := by rfl) (hy : y = nI b := by rfl) (ha : a < 2 ^ 31 := by omega) (hb : b < 2 ^ 31 := by omega) : (x ≤ y → A) ∧ (¬ x ≤ y → B) := by
  subst hx hy
  rw [nI_leI ha hb]
  exact ⟨f, fun z => g (by omega)⟩
theorem pk_lt {x y : Int32} {A B : Prop} (a b : Nat) (f : a < b → A) (g : b ≤ a → B) (hx : x = nI a := by rfl) (hy : y = nI b := by rfl) (ha : a < 2 ^ 31 := by omega) (hb : b < 2 ^ 31 := by omega) : (x < y → A) ∧ (¬ x < y → B) := by
  subst hx hy
  rw [nI_ltI ha hb]
  exact ⟨f, fun z => g (by omega)⟩
theorem pk_eq {x y : Int32} {A B : Prop} (a b : Nat) (f : a = b → A) (g : a ≠ b → B) (hx : x = nI a := by rfl) (hy : y = nI b := by rfl) (ha : a < 2 ^ 31 := by omega) (hb : b < 2 ^ 31 := by omega) : (x = y → A) ∧ (¬ x = y → B) := by
  subst hx hy
  rw [nI_eq ha hb]
  exact ⟨f, g⟩
theorem pk_in {x : Int32} (n N : Nat) (h : n < N) (hx : x = nI n := by rfl) (hN : N < 2 ^ 31 := by omega) : vp_in x N := by
  subst hx
  exact vp_in_nI h hN
theorem pk_cl {x : Int32} (n : Nat) (hx : x = nI n := by rfl) (h : n < 2 ^ 31 := by omega) : x.toNatClampNeg = n := by
  subst hx
  exact nI_clamp h
theorem pk_tn {n : Nat} (h : n < 2 ^ 32) : (nI n).toBitVec.toNat = n := Nat.mod_eq_of_lt h
theorem pk_and (x : Int32) {m : Int32} (k : Nat) (hm : m.toBitVec.toNat = 2 ^ k - 1) : x &&& m = nI (x.toBitVec.toNat % 2 ^ k) := by
  apply Int32.toBitVec_inj.mp
  apply BitVec.eq_of_toNat_eq
  rw [Int32.toBitVec_and, BitVec.toNat_and, hm, Nat.and_two_pow_sub_one_eq_mod]
  show _ = (BitVec.ofNat 32 _).toNat
  rw [BitVec.toNat_ofNat]
  exact (Nat.mod_eq_of_lt (Nat.lt_of_le_of_lt (Nat.mod_le _ _) x.toBitVec.isLt)).symm
theorem pk_andN {n : Nat} (h : n < 2 ^ 32) {m : Int32} (k : Nat) (hm : m.toBitVec.toNat = 2 ^ k - 1) : nI n &&& m = nI (n % 2 ^ k) := by
  rw [pk_and _ k hm, pk_tn h]
theorem pk_andE (x : Int32) {m : Int32} (k : Nat) (hm : m.toBitVec.toNat = 2 ^ k - 1) : ∃ j : Nat, j < 2 ^ k ∧ x &&& m = nI j := ⟨_, Nat.mod_lt _ (Nat.two_pow_pos k), pk_and x k hm⟩
theorem pk_andIn (x : Int32) {m : Int32} (k : Nat) (hm : m.toBitVec.toNat = 2 ^ k - 1) (hk : k ≤ 30) : vp_in (x &&& m) (2 ^ k) := by
  obtain ⟨j, hj, e⟩ := pk_andE x k hm
  rw [e]
  exact vp_in_nI hj (Nat.lt_of_le_of_lt (Nat.pow_le_pow_right (by decide) hk) (by decide))
theorem pk_shl (a s : Int32) (k : Nat) (hs : (s.toBitVec.smod 32).toNat = k) : (a <<< s).toBitVec.toNat = a.toBitVec.toNat * 2 ^ k % 2 ^ 32 := by
  show (a.toBitVec <<< (s.toBitVec.smod 32).toNat).toNat = _
  rw [hs, BitVec.toNat_shiftLeft, Nat.shiftLeft_eq]
theorem pk_shlN {n : Nat} (s : Int32) (k : Nat) (hs : (s.toBitVec.smod 32).toNat = k) (h : n * 2 ^ k < 2 ^ 32) : nI n <<< s = nI (n * 2 ^ k) := by
  apply Int32.toBitVec_inj.mp
  apply BitVec.eq_of_toNat_eq
  have hn : n < 2 ^ 32 := Nat.lt_of_le_of_lt (Nat.le_mul_of_pos_right n (Nat.two_pow_pos k)) h
  rw [pk_shl _ _ k hs, pk_tn hn, pk_tn h, Nat.mod_eq_of_lt h]
theorem pk_shr (a s : Int32) (k : Nat) (hs : (s.toBitVec.smod 32).toNat = k) : (a >>> s).toInt = a.toInt >>> k := by
  show (a.toBitVec.sshiftRight (s.toBitVec.smod 32).toNat).toInt = _
  rw [hs, BitVec.toInt_sshiftRight]
  rfl
theorem pk_shrN {n : Nat} (h : n < 2 ^ 31) (s : Int32) (k : Nat) (hs : (s.toBitVec.smod 32).toNat = k) : nI n >>> s = nI (n / 2 ^ k) := by
  apply Int32.toInt_inj.mp
  have h2 : n / 2 ^ k ≤ n := Nat.div_le_self _ _
  rw [pk_shr _ _ k hs, nI_toInt h, nI_toInt (by omega), Int.shiftRight_eq_div_pow]
  rfl
theorem pk_ushr (x s : Int32) (k : Nat) (hs : ((s.toUInt32 &&& Int32.toUInt32 31).toBitVec % 32).toNat = k) : (x.toUInt32 >>> (s.toUInt32 &&& Int32.toUInt32 31)).toInt32.toBitVec.toNat = x.toBitVec.toNat / 2 ^ k := by
  have e : (x.toUInt32 >>> (s.toUInt32 &&& Int32.toUInt32 31)).toInt32.toBitVec = x.toBitVec >>> k := by
    rw [← hs]
    exact UInt32.toBitVec_shiftRight _ _
  rw [e, BitVec.toNat_ushiftRight, Nat.shiftRight_eq_div_pow]
theorem pk_ushrN {n : Nat} (hn : n < 2 ^ 32) (s : Int32) (k : Nat) (hs : ((s.toUInt32 &&& Int32.toUInt32 31).toBitVec % 32).toNat = k) : ((nI n).toUInt32 >>> (s.toUInt32 &&& Int32.toUInt32 31)).toInt32 = nI (n / 2 ^ k) := by
  apply Int32.toBitVec_inj.mp
  apply BitVec.eq_of_toNat_eq
  rw [pk_ushr _ s k hs, pk_tn hn, pk_tn (Nat.lt_of_le_of_lt (Nat.div_le_self _ _) hn)]
theorem pk_nb (z : Int32) : narrow .byte (.int z.toInt8.toInt32) = .int z.toInt8.toInt32 := congrArg Value.int (by simp)
theorem pk_ns (z : Int32) : narrow .short (.int z.toInt16.toInt32) = .int z.toInt16.toInt32 := congrArg Value.int (by simp)
theorem pk_fb (r : Int32) : fits .byte (.int r.toInt8.toInt32) = true := by
  have ⟨a, b⟩ := lg_i2b_range r
  have h1 : (-128 : Int32).toInt = -128 := by decide
  have h2 : (127 : Int32).toInt = 127 := by decide
  simp only [fits, Bool.and_eq_true, decide_eq_true_eq, Int32.le_iff_toInt_le, h1, h2]
  omega
theorem pk_fs (r : Int32) : fits .short (.int r.toInt16.toInt32) = true := by
  have ⟨a, b⟩ := lg_i2s_range r
  have h1 : (-32768 : Int32).toInt = -32768 := by decide
  have h2 : (32767 : Int32).toInt = 32767 := by decide
  simp only [fits, Bool.and_eq_true, decide_eq_true_eq, Int32.le_iff_toInt_le, h1, h2]
  omega
theorem pk_charN {q : Nat} (hq : q < 65536) : narrow .char (.int (nI q)) = .int (nI q) ∧ fits .char (.int (nI q)) = true := by
  constructor
  · have e : (nI q).toUInt32.toUInt16.toUInt32.toInt32 = nI q := by
      apply Int32.toBitVec_inj.mp
      apply BitVec.eq_of_toNat_eq
      show (nI q).toUInt32.toUInt16.toUInt32.toNat = q % 2 ^ 32
      rw [UInt16.toNat_toUInt32, UInt32.toNat_toUInt16, show (nI q).toUInt32.toNat = q % 2 ^ 32 from rfl]
      omega
    exact congrArg Value.int e
  · have a : (0 : Int32) ≤ nI q := nI_pos' (by omega)
    have b : nI q ≤ 65535 := nI_le (b := 65535) (by omega) (by decide)
    show (decide ((0 : Int32) ≤ nI q) && decide (nI q ≤ 65535)) = true
    rw [decide_eq_true a, decide_eq_true b]
    rfl
theorem pk_char (x : Int32) : (x.toUInt32 % 65536).toInt32 = nI (x.toBitVec.toNat % 65536) := by
  apply Int32.toBitVec_inj.mp
  apply BitVec.eq_of_toNat_eq
  rw [pk_tn (by omega)]
  show (x.toUInt32 % 65536).toNat = _
  rw [UInt32.toNat_mod]
  rfl
theorem pk_nc (x : Int32) : narrow .char (.int (x.toUInt32 % 65536).toInt32) = .int (x.toUInt32 % 65536).toInt32 := by
  rw [pk_char]
  exact (pk_charN (Nat.mod_lt _ (by decide))).1
theorem pk_fc (x : Int32) : fits .char (.int (x.toUInt32 % 65536).toInt32) = true := by
  rw [pk_char]
  exact (pk_charN (Nat.mod_lt _ (by decide))).2
theorem pk_vb (z : Int32) : vp_nar .byte z.toInt8.toInt32 = z.toInt8.toInt32 := by rw [vp_nar_byte]; simp
theorem pk_vs (z : Int32) : vp_nar .short z.toInt16.toInt32 = z.toInt16.toInt32 := by rw [vp_nar_short]; simp
theorem pk_vc (z : Int32) : vp_nar .char (z.toUInt32 % 65536).toInt32 = (z.toUInt32 % 65536).toInt32 := Value.int.inj (pk_nc z)
theorem pk_lT {n : Nat} (h : n < 2 ^ 63) : (lN n).toInt = (n : Int) := lg_ofNat_toInt h
theorem pk_lLT {a b : Nat} (ha : a < 2 ^ 63) (hb : b < 2 ^ 63) : lN a < lN b ↔ a < b := by
  rw [Int64.lt_iff_toInt_lt, pk_lT ha, pk_lT hb]; omega
theorem pk_lLE {a b : Nat} (ha : a < 2 ^ 63) (hb : b < 2 ^ 63) : lN a ≤ lN b ↔ a ≤ b := by
  rw [Int64.le_iff_toInt_le, pk_lT ha, pk_lT hb]; omega
theorem pk_lEQ {a b : Nat} (ha : a < 2 ^ 63) (hb : b < 2 ^ 63) : lN a = lN b ↔ a = b := by
  rw [← Int64.toInt_inj, pk_lT ha, pk_lT hb]; omega
theorem pk_lOf {x : Int64} (h : ¬ x < 0) : ∃ k : Nat, k < 2 ^ 63 ∧ x = lN k := by
  rw [Int64.lt_iff_toInt_lt] at h
  have h0 : (0 : Int64).toInt = 0 := by decide
  have hx := Int64.toInt_lt x
  refine ⟨x.toInt.toNat, by omega, Int64.toInt_inj.mp ?_⟩
  rw [pk_lT (by omega)]
  omega
theorem pk_lDiv {a b : Nat} (ha : a < 2 ^ 63) (h0 : 0 < b) (hb : b < 2 ^ 63) : lN a / lN b = lN (a / b) := by
  apply Int64.toInt_inj.mp
  rw [lg_ldiv_nonneg (by rw [pk_lT ha]; omega) (by rw [pk_lT hb]; omega), pk_lT ha, pk_lT hb, pk_lT (Nat.lt_of_le_of_lt (Nat.div_le_self a b) ha)]
  rfl
theorem pk_lRem {a b : Nat} (ha : a < 2 ^ 63) (h0 : 0 < b) (hb : b < 2 ^ 63) : lN a - lN a / lN b * lN b = lN (a % b) := by
  rw [pk_lDiv ha h0 hb, lN_mul, lN_sub (Nat.div_mul_le_self a b)]
  exact congrArg lN (by have := Nat.div_add_mod' a b; omega)
theorem pk_loop {σ : Type} (W : Nat → Nat → σ → Prop) (I : Nat → σ → Prop) (e i0 : Nat) (s : σ) (hi : i0 ≤ e) (h0 : I i0 s) (hx : ∀ n s, I e s → W (n + 1) e s)
    (hs : ∀ n i s, i < e → I i s → (∀ s', I (i + 1) s' → W n (i + 1) s') → W (n + 1) i s) : ∃ n, W n i0 s :=
  ⟨e + 1, loop_i W I e hx hs (e + 1) i0 s hi (by omega) h0⟩
theorem pk_loopD {σ : Type} (W : Nat → Nat → σ → Prop) (I : Nat → σ → Prop) (hx : ∀ n s, I 0 s → W (n + 1) 0 s)
    (hs : ∀ n i s, I (i + 1) s → (∀ s', I i s' → W n i s') → W (n + 1) (i + 1) s) : ∀ (e : Nat) (s : σ), I e s → W (e + 1) e s := by
  intro e
  induction e with
  | zero => exact fun s h => hx 0 s h
  | succ e ih => exact fun s h => hs (e + 1) e s h (fun s' h' => ih s' h')
theorem lp1 {A1 : Type} (W : Nat → A1 → Prop) (I : A1 → Prop) (μ : A1 → Nat) (hs : ∀ (n : Nat) (a1 : A1), I a1 → (∀ (b1 : A1), I b1 → μ b1 < μ a1 → W n b1) → W (n + 1) a1) (a1 : A1) (h : I a1) : ∃ n, W n a1 :=
  loop_m (σ := A1) (fun n s => W n s) (fun s => I s) (fun s => μ s) (fun n s hI hk => hs n s hI (fun b1 h9 hm => hk b1 h9 hm)) a1 h
theorem lp2 {A1 A2 : Type} (W : Nat → A1 → A2 → Prop) (I : A1 → A2 → Prop) (μ : A1 → A2 → Nat) (hs : ∀ (n : Nat) (a1 : A1) (a2 : A2), I a1 a2 → (∀ (b1 : A1) (b2 : A2), I b1 b2 → μ b1 b2 < μ a1 a2 → W n b1 b2) → W (n + 1) a1 a2) (a1 : A1) (a2 : A2) (h : I a1 a2) : ∃ n, W n a1 a2 :=
  loop_m (σ := A1 × A2) (fun n s => W n s.1 s.2) (fun s => I s.1 s.2) (fun s => μ s.1 s.2) (fun n s hI hk => hs n s.1 s.2 hI (fun b1 b2 h9 hm => hk (b1, b2) h9 hm)) (a1, a2) h
theorem lp3 {A1 A2 A3 : Type} (W : Nat → A1 → A2 → A3 → Prop) (I : A1 → A2 → A3 → Prop) (μ : A1 → A2 → A3 → Nat) (hs : ∀ (n : Nat) (a1 : A1) (a2 : A2) (a3 : A3), I a1 a2 a3 → (∀ (b1 : A1) (b2 : A2) (b3 : A3), I b1 b2 b3 → μ b1 b2 b3 < μ a1 a2 a3 → W n b1 b2 b3) → W (n + 1) a1 a2 a3) (a1 : A1) (a2 : A2) (a3 : A3) (h : I a1 a2 a3) : ∃ n, W n a1 a2 a3 :=
  loop_m (σ := A1 × A2 × A3) (fun n s => W n s.1 s.2.1 s.2.2) (fun s => I s.1 s.2.1 s.2.2) (fun s => μ s.1 s.2.1 s.2.2) (fun n s hI hk => hs n s.1 s.2.1 s.2.2 hI (fun b1 b2 b3 h9 hm => hk (b1, b2, b3) h9 hm)) (a1, a2, a3) h
theorem lp4 {A1 A2 A3 A4 : Type} (W : Nat → A1 → A2 → A3 → A4 → Prop) (I : A1 → A2 → A3 → A4 → Prop) (μ : A1 → A2 → A3 → A4 → Nat) (hs : ∀ (n : Nat) (a1 : A1) (a2 : A2) (a3 : A3) (a4 : A4), I a1 a2 a3 a4 → (∀ (b1 : A1) (b2 : A2) (b3 : A3) (b4 : A4), I b1 b2 b3 b4 → μ b1 b2 b3 b4 < μ a1 a2 a3 a4 → W n b1 b2 b3 b4) → W (n + 1) a1 a2 a3 a4) (a1 : A1) (a2 : A2) (a3 : A3) (a4 : A4) (h : I a1 a2 a3 a4) : ∃ n, W n a1 a2 a3 a4 :=
  loop_m (σ := A1 × A2 × A3 × A4) (fun n s => W n s.1 s.2.1 s.2.2.1 s.2.2.2) (fun s => I s.1 s.2.1 s.2.2.1 s.2.2.2) (fun s => μ s.1 s.2.1 s.2.2.1 s.2.2.2) (fun n s hI hk => hs n s.1 s.2.1 s.2.2.1 s.2.2.2 hI (fun b1 b2 b3 b4 h9 hm => hk (b1, b2, b3, b4) h9 hm)) (a1, a2, a3, a4) h
theorem lp5 {A1 A2 A3 A4 A5 : Type} (W : Nat → A1 → A2 → A3 → A4 → A5 → Prop) (I : A1 → A2 → A3 → A4 → A5 → Prop) (μ : A1 → A2 → A3 → A4 → A5 → Nat) (hs : ∀ (n : Nat) (a1 : A1) (a2 : A2) (a3 : A3) (a4 : A4) (a5 : A5), I a1 a2 a3 a4 a5 → (∀ (b1 : A1) (b2 : A2) (b3 : A3) (b4 : A4) (b5 : A5), I b1 b2 b3 b4 b5 → μ b1 b2 b3 b4 b5 < μ a1 a2 a3 a4 a5 → W n b1 b2 b3 b4 b5) → W (n + 1) a1 a2 a3 a4 a5) (a1 : A1) (a2 : A2) (a3 : A3) (a4 : A4) (a5 : A5) (h : I a1 a2 a3 a4 a5) : ∃ n, W n a1 a2 a3 a4 a5 :=
  loop_m (σ := A1 × A2 × A3 × A4 × A5) (fun n s => W n s.1 s.2.1 s.2.2.1 s.2.2.2.1 s.2.2.2.2) (fun s => I s.1 s.2.1 s.2.2.1 s.2.2.2.1 s.2.2.2.2) (fun s => μ s.1 s.2.1 s.2.2.1 s.2.2.2.1 s.2.2.2.2) (fun n s hI hk => hs n s.1 s.2.1 s.2.2.1 s.2.2.2.1 s.2.2.2.2 hI (fun b1 b2 b3 b4 b5 h9 hm => hk (b1, b2, b3, b4, b5) h9 hm)) (a1, a2, a3, a4, a5) h
theorem lp6 {A1 A2 A3 A4 A5 A6 : Type} (W : Nat → A1 → A2 → A3 → A4 → A5 → A6 → Prop) (I : A1 → A2 → A3 → A4 → A5 → A6 → Prop) (μ : A1 → A2 → A3 → A4 → A5 → A6 → Nat) (hs : ∀ (n : Nat) (a1 : A1) (a2 : A2) (a3 : A3) (a4 : A4) (a5 : A5) (a6 : A6), I a1 a2 a3 a4 a5 a6 → (∀ (b1 : A1) (b2 : A2) (b3 : A3) (b4 : A4) (b5 : A5) (b6 : A6), I b1 b2 b3 b4 b5 b6 → μ b1 b2 b3 b4 b5 b6 < μ a1 a2 a3 a4 a5 a6 → W n b1 b2 b3 b4 b5 b6) → W (n + 1) a1 a2 a3 a4 a5 a6) (a1 : A1) (a2 : A2) (a3 : A3) (a4 : A4) (a5 : A5) (a6 : A6) (h : I a1 a2 a3 a4 a5 a6) : ∃ n, W n a1 a2 a3 a4 a5 a6 :=
  loop_m (σ := A1 × A2 × A3 × A4 × A5 × A6) (fun n s => W n s.1 s.2.1 s.2.2.1 s.2.2.2.1 s.2.2.2.2.1 s.2.2.2.2.2) (fun s => I s.1 s.2.1 s.2.2.1 s.2.2.2.1 s.2.2.2.2.1 s.2.2.2.2.2) (fun s => μ s.1 s.2.1 s.2.2.1 s.2.2.2.1 s.2.2.2.2.1 s.2.2.2.2.2) (fun n s hI hk => hs n s.1 s.2.1 s.2.2.1 s.2.2.2.1 s.2.2.2.2.1 s.2.2.2.2.2 hI (fun b1 b2 b3 b4 b5 b6 h9 hm => hk (b1, b2, b3, b4, b5, b6) h9 hm)) (a1, a2, a3, a4, a5, a6) h
theorem lp7 {A1 A2 A3 A4 A5 A6 A7 : Type} (W : Nat → A1 → A2 → A3 → A4 → A5 → A6 → A7 → Prop) (I : A1 → A2 → A3 → A4 → A5 → A6 → A7 → Prop) (μ : A1 → A2 → A3 → A4 → A5 → A6 → A7 → Nat) (hs : ∀ (n : Nat) (a1 : A1) (a2 : A2) (a3 : A3) (a4 : A4) (a5 : A5) (a6 : A6) (a7 : A7), I a1 a2 a3 a4 a5 a6 a7 → (∀ (b1 : A1) (b2 : A2) (b3 : A3) (b4 : A4) (b5 : A5) (b6 : A6) (b7 : A7), I b1 b2 b3 b4 b5 b6 b7 → μ b1 b2 b3 b4 b5 b6 b7 < μ a1 a2 a3 a4 a5 a6 a7 → W n b1 b2 b3 b4 b5 b6 b7) → W (n + 1) a1 a2 a3 a4 a5 a6 a7) (a1 : A1) (a2 : A2) (a3 : A3) (a4 : A4) (a5 : A5) (a6 : A6) (a7 : A7) (h : I a1 a2 a3 a4 a5 a6 a7) : ∃ n, W n a1 a2 a3 a4 a5 a6 a7 :=
  loop_m (σ := A1 × A2 × A3 × A4 × A5 × A6 × A7) (fun n s => W n s.1 s.2.1 s.2.2.1 s.2.2.2.1 s.2.2.2.2.1 s.2.2.2.2.2.1 s.2.2.2.2.2.2) (fun s => I s.1 s.2.1 s.2.2.1 s.2.2.2.1 s.2.2.2.2.1 s.2.2.2.2.2.1 s.2.2.2.2.2.2) (fun s => μ s.1 s.2.1 s.2.2.1 s.2.2.2.1 s.2.2.2.2.1 s.2.2.2.2.2.1 s.2.2.2.2.2.2) (fun n s hI hk => hs n s.1 s.2.1 s.2.2.1 s.2.2.2.1 s.2.2.2.2.1 s.2.2.2.2.2.1 s.2.2.2.2.2.2 hI (fun b1 b2 b3 b4 b5 b6 b7 h9 hm => hk (b1, b2, b3, b4, b5, b6, b7) h9 hm)) (a1, a2, a3, a4, a5, a6, a7) h
theorem lp8 {A1 A2 A3 A4 A5 A6 A7 A8 : Type} (W : Nat → A1 → A2 → A3 → A4 → A5 → A6 → A7 → A8 → Prop) (I : A1 → A2 → A3 → A4 → A5 → A6 → A7 → A8 → Prop) (μ : A1 → A2 → A3 → A4 → A5 → A6 → A7 → A8 → Nat) (hs : ∀ (n : Nat) (a1 : A1) (a2 : A2) (a3 : A3) (a4 : A4) (a5 : A5) (a6 : A6) (a7 : A7) (a8 : A8), I a1 a2 a3 a4 a5 a6 a7 a8 → (∀ (b1 : A1) (b2 : A2) (b3 : A3) (b4 : A4) (b5 : A5) (b6 : A6) (b7 : A7) (b8 : A8), I b1 b2 b3 b4 b5 b6 b7 b8 → μ b1 b2 b3 b4 b5 b6 b7 b8 < μ a1 a2 a3 a4 a5 a6 a7 a8 → W n b1 b2 b3 b4 b5 b6 b7 b8) → W (n + 1) a1 a2 a3 a4 a5 a6 a7 a8) (a1 : A1) (a2 : A2) (a3 : A3) (a4 : A4) (a5 : A5) (a6 : A6) (a7 : A7) (a8 : A8) (h : I a1 a2 a3 a4 a5 a6 a7 a8) : ∃ n, W n a1 a2 a3 a4 a5 a6 a7 a8 :=
  loop_m (σ := A1 × A2 × A3 × A4 × A5 × A6 × A7 × A8) (fun n s => W n s.1 s.2.1 s.2.2.1 s.2.2.2.1 s.2.2.2.2.1 s.2.2.2.2.2.1 s.2.2.2.2.2.2.1 s.2.2.2.2.2.2.2) (fun s => I s.1 s.2.1 s.2.2.1 s.2.2.2.1 s.2.2.2.2.1 s.2.2.2.2.2.1 s.2.2.2.2.2.2.1 s.2.2.2.2.2.2.2) (fun s => μ s.1 s.2.1 s.2.2.1 s.2.2.2.1 s.2.2.2.2.1 s.2.2.2.2.2.1 s.2.2.2.2.2.2.1 s.2.2.2.2.2.2.2) (fun n s hI hk => hs n s.1 s.2.1 s.2.2.1 s.2.2.2.1 s.2.2.2.2.1 s.2.2.2.2.2.1 s.2.2.2.2.2.2.1 s.2.2.2.2.2.2.2 hI (fun b1 b2 b3 b4 b5 b6 b7 b8 h9 hm => hk (b1, b2, b3, b4, b5, b6, b7, b8) h9 hm)) (a1, a2, a3, a4, a5, a6, a7, a8) h
theorem lp9 {A1 A2 A3 A4 A5 A6 A7 A8 A9 : Type} (W : Nat → A1 → A2 → A3 → A4 → A5 → A6 → A7 → A8 → A9 → Prop) (I : A1 → A2 → A3 → A4 → A5 → A6 → A7 → A8 → A9 → Prop) (μ : A1 → A2 → A3 → A4 → A5 → A6 → A7 → A8 → A9 → Nat) (hs : ∀ (n : Nat) (a1 : A1) (a2 : A2) (a3 : A3) (a4 : A4) (a5 : A5) (a6 : A6) (a7 : A7) (a8 : A8) (a9 : A9), I a1 a2 a3 a4 a5 a6 a7 a8 a9 → (∀ (b1 : A1) (b2 : A2) (b3 : A3) (b4 : A4) (b5 : A5) (b6 : A6) (b7 : A7) (b8 : A8) (b9 : A9), I b1 b2 b3 b4 b5 b6 b7 b8 b9 → μ b1 b2 b3 b4 b5 b6 b7 b8 b9 < μ a1 a2 a3 a4 a5 a6 a7 a8 a9 → W n b1 b2 b3 b4 b5 b6 b7 b8 b9) → W (n + 1) a1 a2 a3 a4 a5 a6 a7 a8 a9) (a1 : A1) (a2 : A2) (a3 : A3) (a4 : A4) (a5 : A5) (a6 : A6) (a7 : A7) (a8 : A8) (a9 : A9) (h : I a1 a2 a3 a4 a5 a6 a7 a8 a9) : ∃ n, W n a1 a2 a3 a4 a5 a6 a7 a8 a9 :=
  loop_m (σ := A1 × A2 × A3 × A4 × A5 × A6 × A7 × A8 × A9) (fun n s => W n s.1 s.2.1 s.2.2.1 s.2.2.2.1 s.2.2.2.2.1 s.2.2.2.2.2.1 s.2.2.2.2.2.2.1 s.2.2.2.2.2.2.2.1 s.2.2.2.2.2.2.2.2) (fun s => I s.1 s.2.1 s.2.2.1 s.2.2.2.1 s.2.2.2.2.1 s.2.2.2.2.2.1 s.2.2.2.2.2.2.1 s.2.2.2.2.2.2.2.1 s.2.2.2.2.2.2.2.2) (fun s => μ s.1 s.2.1 s.2.2.1 s.2.2.2.1 s.2.2.2.2.1 s.2.2.2.2.2.1 s.2.2.2.2.2.2.1 s.2.2.2.2.2.2.2.1 s.2.2.2.2.2.2.2.2) (fun n s hI hk => hs n s.1 s.2.1 s.2.2.1 s.2.2.2.1 s.2.2.2.2.1 s.2.2.2.2.2.1 s.2.2.2.2.2.2.1 s.2.2.2.2.2.2.2.1 s.2.2.2.2.2.2.2.2 hI (fun b1 b2 b3 b4 b5 b6 b7 b8 b9 h9 hm => hk (b1, b2, b3, b4, b5, b6, b7, b8, b9) h9 hm)) (a1, a2, a3, a4, a5, a6, a7, a8, a9) h
theorem lp10 {A1 A2 A3 A4 A5 A6 A7 A8 A9 A10 : Type} (W : Nat → A1 → A2 → A3 → A4 → A5 → A6 → A7 → A8 → A9 → A10 → Prop) (I : A1 → A2 → A3 → A4 → A5 → A6 → A7 → A8 → A9 → A10 → Prop) (μ : A1 → A2 → A3 → A4 → A5 → A6 → A7 → A8 → A9 → A10 → Nat) (hs : ∀ (n : Nat) (a1 : A1) (a2 : A2) (a3 : A3) (a4 : A4) (a5 : A5) (a6 : A6) (a7 : A7) (a8 : A8) (a9 : A9) (a10 : A10), I a1 a2 a3 a4 a5 a6 a7 a8 a9 a10 → (∀ (b1 : A1) (b2 : A2) (b3 : A3) (b4 : A4) (b5 : A5) (b6 : A6) (b7 : A7) (b8 : A8) (b9 : A9) (b10 : A10), I b1 b2 b3 b4 b5 b6 b7 b8 b9 b10 → μ b1 b2 b3 b4 b5 b6 b7 b8 b9 b10 < μ a1 a2 a3 a4 a5 a6 a7 a8 a9 a10 → W n b1 b2 b3 b4 b5 b6 b7 b8 b9 b10) → W (n + 1) a1 a2 a3 a4 a5 a6 a7 a8 a9 a10) (a1 : A1) (a2 : A2) (a3 : A3) (a4 : A4) (a5 : A5) (a6 : A6) (a7 : A7) (a8 : A8) (a9 : A9) (a10 : A10) (h : I a1 a2 a3 a4 a5 a6 a7 a8 a9 a10) : ∃ n, W n a1 a2 a3 a4 a5 a6 a7 a8 a9 a10 :=
  loop_m (σ := A1 × A2 × A3 × A4 × A5 × A6 × A7 × A8 × A9 × A10) (fun n s => W n s.1 s.2.1 s.2.2.1 s.2.2.2.1 s.2.2.2.2.1 s.2.2.2.2.2.1 s.2.2.2.2.2.2.1 s.2.2.2.2.2.2.2.1 s.2.2.2.2.2.2.2.2.1 s.2.2.2.2.2.2.2.2.2) (fun s => I s.1 s.2.1 s.2.2.1 s.2.2.2.1 s.2.2.2.2.1 s.2.2.2.2.2.1 s.2.2.2.2.2.2.1 s.2.2.2.2.2.2.2.1 s.2.2.2.2.2.2.2.2.1 s.2.2.2.2.2.2.2.2.2) (fun s => μ s.1 s.2.1 s.2.2.1 s.2.2.2.1 s.2.2.2.2.1 s.2.2.2.2.2.1 s.2.2.2.2.2.2.1 s.2.2.2.2.2.2.2.1 s.2.2.2.2.2.2.2.2.1 s.2.2.2.2.2.2.2.2.2) (fun n s hI hk => hs n s.1 s.2.1 s.2.2.1 s.2.2.2.1 s.2.2.2.2.1 s.2.2.2.2.2.1 s.2.2.2.2.2.2.1 s.2.2.2.2.2.2.2.1 s.2.2.2.2.2.2.2.2.1 s.2.2.2.2.2.2.2.2.2 hI (fun b1 b2 b3 b4 b5 b6 b7 b8 b9 b10 h9 hm => hk (b1, b2, b3, b4, b5, b6, b7, b8, b9, b10) h9 hm)) (a1, a2, a3, a4, a5, a6, a7, a8, a9, a10) h
theorem lp11 {A1 A2 A3 A4 A5 A6 A7 A8 A9 A10 A11 : Type} (W : Nat → A1 → A2 → A3 → A4 → A5 → A6 → A7 → A8 → A9 → A10 → A11 → Prop) (I : A1 → A2 → A3 → A4 → A5 → A6 → A7 → A8 → A9 → A10 → A11 → Prop) (μ : A1 → A2 → A3 → A4 → A5 → A6 → A7 → A8 → A9 → A10 → A11 → Nat) (hs : ∀ (n : Nat) (a1 : A1) (a2 : A2) (a3 : A3) (a4 : A4) (a5 : A5) (a6 : A6) (a7 : A7) (a8 : A8) (a9 : A9) (a10 : A10) (a11 : A11), I a1 a2 a3 a4 a5 a6 a7 a8 a9 a10 a11 → (∀ (b1 : A1) (b2 : A2) (b3 : A3) (b4 : A4) (b5 : A5) (b6 : A6) (b7 : A7) (b8 : A8) (b9 : A9) (b10 : A10) (b11 : A11), I b1 b2 b3 b4 b5 b6 b7 b8 b9 b10 b11 → μ b1 b2 b3 b4 b5 b6 b7 b8 b9 b10 b11 < μ a1 a2 a3 a4 a5 a6 a7 a8 a9 a10 a11 → W n b1 b2 b3 b4 b5 b6 b7 b8 b9 b10 b11) → W (n + 1) a1 a2 a3 a4 a5 a6 a7 a8 a9 a10 a11) (a1 : A1) (a2 : A2) (a3 : A3) (a4 : A4) (a5 : A5) (a6 : A6) (a7 : A7) (a8 : A8) (a9 : A9) (a10 : A10) (a11 : A11) (h : I a1 a2 a3 a4 a5 a6 a7 a8 a9 a10 a11) : ∃ n, W n a1 a2 a3 a4 a5 a6 a7 a8 a9 a10 a11 :=
  loop_m (σ := A1 × A2 × A3 × A4 × A5 × A6 × A7 × A8 × A9 × A10 × A11) (fun n s => W n s.1 s.2.1 s.2.2.1 s.2.2.2.1 s.2.2.2.2.1 s.2.2.2.2.2.1 s.2.2.2.2.2.2.1 s.2.2.2.2.2.2.2.1 s.2.2.2.2.2.2.2.2.1 s.2.2.2.2.2.2.2.2.2.1 s.2.2.2.2.2.2.2.2.2.2) (fun s => I s.1 s.2.1 s.2.2.1 s.2.2.2.1 s.2.2.2.2.1 s.2.2.2.2.2.1 s.2.2.2.2.2.2.1 s.2.2.2.2.2.2.2.1 s.2.2.2.2.2.2.2.2.1 s.2.2.2.2.2.2.2.2.2.1 s.2.2.2.2.2.2.2.2.2.2) (fun s => μ s.1 s.2.1 s.2.2.1 s.2.2.2.1 s.2.2.2.2.1 s.2.2.2.2.2.1 s.2.2.2.2.2.2.1 s.2.2.2.2.2.2.2.1 s.2.2.2.2.2.2.2.2.1 s.2.2.2.2.2.2.2.2.2.1 s.2.2.2.2.2.2.2.2.2.2) (fun n s hI hk => hs n s.1 s.2.1 s.2.2.1 s.2.2.2.1 s.2.2.2.2.1 s.2.2.2.2.2.1 s.2.2.2.2.2.2.1 s.2.2.2.2.2.2.2.1 s.2.2.2.2.2.2.2.2.1 s.2.2.2.2.2.2.2.2.2.1 s.2.2.2.2.2.2.2.2.2.2 hI (fun b1 b2 b3 b4 b5 b6 b7 b8 b9 b10 b11 h9 hm => hk (b1, b2, b3, b4, b5, b6, b7, b8, b9, b10, b11) h9 hm)) (a1, a2, a3, a4, a5, a6, a7, a8, a9, a10, a11) h
theorem lp12 {A1 A2 A3 A4 A5 A6 A7 A8 A9 A10 A11 A12 : Type} (W : Nat → A1 → A2 → A3 → A4 → A5 → A6 → A7 → A8 → A9 → A10 → A11 → A12 → Prop) (I : A1 → A2 → A3 → A4 → A5 → A6 → A7 → A8 → A9 → A10 → A11 → A12 → Prop) (μ : A1 → A2 → A3 → A4 → A5 → A6 → A7 → A8 → A9 → A10 → A11 → A12 → Nat) (hs : ∀ (n : Nat) (a1 : A1) (a2 : A2) (a3 : A3) (a4 : A4) (a5 : A5) (a6 : A6) (a7 : A7) (a8 : A8) (a9 : A9) (a10 : A10) (a11 : A11) (a12 : A12), I a1 a2 a3 a4 a5 a6 a7 a8 a9 a10 a11 a12 → (∀ (b1 : A1) (b2 : A2) (b3 : A3) (b4 : A4) (b5 : A5) (b6 : A6) (b7 : A7) (b8 : A8) (b9 : A9) (b10 : A10) (b11 : A11) (b12 : A12), I b1 b2 b3 b4 b5 b6 b7 b8 b9 b10 b11 b12 → μ b1 b2 b3 b4 b5 b6 b7 b8 b9 b10 b11 b12 < μ a1 a2 a3 a4 a5 a6 a7 a8 a9 a10 a11 a12 → W n b1 b2 b3 b4 b5 b6 b7 b8 b9 b10 b11 b12) → W (n + 1) a1 a2 a3 a4 a5 a6 a7 a8 a9 a10 a11 a12) (a1 : A1) (a2 : A2) (a3 : A3) (a4 : A4) (a5 : A5) (a6 : A6) (a7 : A7) (a8 : A8) (a9 : A9) (a10 : A10) (a11 : A11) (a12 : A12) (h : I a1 a2 a3 a4 a5 a6 a7 a8 a9 a10 a11 a12) : ∃ n, W n a1 a2 a3 a4 a5 a6 a7 a8 a9 a10 a11 a12 :=
  loop_m (σ := A1 × A2 × A3 × A4 × A5 × A6 × A7 × A8 × A9 × A10 × A11 × A12) (fun n s => W n s.1 s.2.1 s.2.2.1 s.2.2.2.1 s.2.2.2.2.1 s.2.2.2.2.2.1 s.2.2.2.2.2.2.1 s.2.2.2.2.2.2.2.1 s.2.2.2.2.2.2.2.2.1 s.2.2.2.2.2.2.2.2.2.1 s.2.2.2.2.2.2.2.2.2.2.1 s.2.2.2.2.2.2.2.2.2.2.2) (fun s => I s.1 s.2.1 s.2.2.1 s.2.2.2.1 s.2.2.2.2.1 s.2.2.2.2.2.1 s.2.2.2.2.2.2.1 s.2.2.2.2.2.2.2.1 s.2.2.2.2.2.2.2.2.1 s.2.2.2.2.2.2.2.2.2.1 s.2.2.2.2.2.2.2.2.2.2.1 s.2.2.2.2.2.2.2.2.2.2.2) (fun s => μ s.1 s.2.1 s.2.2.1 s.2.2.2.1 s.2.2.2.2.1 s.2.2.2.2.2.1 s.2.2.2.2.2.2.1 s.2.2.2.2.2.2.2.1 s.2.2.2.2.2.2.2.2.1 s.2.2.2.2.2.2.2.2.2.1 s.2.2.2.2.2.2.2.2.2.2.1 s.2.2.2.2.2.2.2.2.2.2.2) (fun n s hI hk => hs n s.1 s.2.1 s.2.2.1 s.2.2.2.1 s.2.2.2.2.1 s.2.2.2.2.2.1 s.2.2.2.2.2.2.1 s.2.2.2.2.2.2.2.1 s.2.2.2.2.2.2.2.2.1 s.2.2.2.2.2.2.2.2.2.1 s.2.2.2.2.2.2.2.2.2.2.1 s.2.2.2.2.2.2.2.2.2.2.2 hI (fun b1 b2 b3 b4 b5 b6 b7 b8 b9 b10 b11 b12 h9 hm => hk (b1, b2, b3, b4, b5, b6, b7, b8, b9, b10, b11, b12) h9 hm)) (a1, a2, a3, a4, a5, a6, a7, a8, a9, a10, a11, a12) h
theorem lp13 {A1 A2 A3 A4 A5 A6 A7 A8 A9 A10 A11 A12 A13 : Type} (W : Nat → A1 → A2 → A3 → A4 → A5 → A6 → A7 → A8 → A9 → A10 → A11 → A12 → A13 → Prop) (I : A1 → A2 → A3 → A4 → A5 → A6 → A7 → A8 → A9 → A10 → A11 → A12 → A13 → Prop) (μ : A1 → A2 → A3 → A4 → A5 → A6 → A7 → A8 → A9 → A10 → A11 → A12 → A13 → Nat) (hs : ∀ (n : Nat) (a1 : A1) (a2 : A2) (a3 : A3) (a4 : A4) (a5 : A5) (a6 : A6) (a7 : A7) (a8 : A8) (a9 : A9) (a10 : A10) (a11 : A11) (a12 : A12) (a13 : A13), I a1 a2 a3 a4 a5 a6 a7 a8 a9 a10 a11 a12 a13 → (∀ (b1 : A1) (b2 : A2) (b3 : A3) (b4 : A4) (b5 : A5) (b6 : A6) (b7 : A7) (b8 : A8) (b9 : A9) (b10 : A10) (b11 : A11) (b12 : A12) (b13 : A13), I b1 b2 b3 b4 b5 b6 b7 b8 b9 b10 b11 b12 b13 → μ b1 b2 b3 b4 b5 b6 b7 b8 b9 b10 b11 b12 b13 < μ a1 a2 a3 a4 a5 a6 a7 a8 a9 a10 a11 a12 a13 → W n b1 b2 b3 b4 b5 b6 b7 b8 b9 b10 b11 b12 b13) → W (n + 1) a1 a2 a3 a4 a5 a6 a7 a8 a9 a10 a11 a12 a13) (a1 : A1) (a2 : A2) (a3 : A3) (a4 : A4) (a5 : A5) (a6 : A6) (a7 : A7) (a8 : A8) (a9 : A9) (a10 : A10) (a11 : A11) (a12 : A12) (a13 : A13) (h : I a1 a2 a3 a4 a5 a6 a7 a8 a9 a10 a11 a12 a13) : ∃ n, W n a1 a2 a3 a4 a5 a6 a7 a8 a9 a10 a11 a12 a13 :=
  loop_m (σ := A1 × A2 × A3 × A4 × A5 × A6 × A7 × A8 × A9 × A10 × A11 × A12 × A13) (fun n s => W n s.1 s.2.1 s.2.2.1 s.2.2.2.1 s.2.2.2.2.1 s.2.2.2.2.2.1 s.2.2.2.2.2.2.1 s.2.2.2.2.2.2.2.1 s.2.2.2.2.2.2.2.2.1 s.2.2.2.2.2.2.2.2.2.1 s.2.2.2.2.2.2.2.2.2.2.1 s.2.2.2.2.2.2.2.2.2.2.2.1 s.2.2.2.2.2.2.2.2.2.2.2.2) (fun s => I s.1 s.2.1 s.2.2.1 s.2.2.2.1 s.2.2.2.2.1 s.2.2.2.2.2.1 s.2.2.2.2.2.2.1 s.2.2.2.2.2.2.2.1 s.2.2.2.2.2.2.2.2.1 s.2.2.2.2.2.2.2.2.2.1 s.2.2.2.2.2.2.2.2.2.2.1 s.2.2.2.2.2.2.2.2.2.2.2.1 s.2.2.2.2.2.2.2.2.2.2.2.2) (fun s => μ s.1 s.2.1 s.2.2.1 s.2.2.2.1 s.2.2.2.2.1 s.2.2.2.2.2.1 s.2.2.2.2.2.2.1 s.2.2.2.2.2.2.2.1 s.2.2.2.2.2.2.2.2.1 s.2.2.2.2.2.2.2.2.2.1 s.2.2.2.2.2.2.2.2.2.2.1 s.2.2.2.2.2.2.2.2.2.2.2.1 s.2.2.2.2.2.2.2.2.2.2.2.2) (fun n s hI hk => hs n s.1 s.2.1 s.2.2.1 s.2.2.2.1 s.2.2.2.2.1 s.2.2.2.2.2.1 s.2.2.2.2.2.2.1 s.2.2.2.2.2.2.2.1 s.2.2.2.2.2.2.2.2.1 s.2.2.2.2.2.2.2.2.2.1 s.2.2.2.2.2.2.2.2.2.2.1 s.2.2.2.2.2.2.2.2.2.2.2.1 s.2.2.2.2.2.2.2.2.2.2.2.2 hI (fun b1 b2 b3 b4 b5 b6 b7 b8 b9 b10 b11 b12 b13 h9 hm => hk (b1, b2, b3, b4, b5, b6, b7, b8, b9, b10, b11, b12, b13) h9 hm)) (a1, a2, a3, a4, a5, a6, a7, a8, a9, a10, a11, a12, a13) h
theorem lp14 {A1 A2 A3 A4 A5 A6 A7 A8 A9 A10 A11 A12 A13 A14 : Type} (W : Nat → A1 → A2 → A3 → A4 → A5 → A6 → A7 → A8 → A9 → A10 → A11 → A12 → A13 → A14 → Prop) (I : A1 → A2 → A3 → A4 → A5 → A6 → A7 → A8 → A9 → A10 → A11 → A12 → A13 → A14 → Prop) (μ : A1 → A2 → A3 → A4 → A5 → A6 → A7 → A8 → A9 → A10 → A11 → A12 → A13 → A14 → Nat) (hs : ∀ (n : Nat) (a1 : A1) (a2 : A2) (a3 : A3) (a4 : A4) (a5 : A5) (a6 : A6) (a7 : A7) (a8 : A8) (a9 : A9) (a10 : A10) (a11 : A11) (a12 : A12) (a13 : A13) (a14 : A14), I a1 a2 a3 a4 a5 a6 a7 a8 a9 a10 a11 a12 a13 a14 → (∀ (b1 : A1) (b2 : A2) (b3 : A3) (b4 : A4) (b5 : A5) (b6 : A6) (b7 : A7) (b8 : A8) (b9 : A9) (b10 : A10) (b11 : A11) (b12 : A12) (b13 : A13) (b14 : A14), I b1 b2 b3 b4 b5 b6 b7 b8 b9 b10 b11 b12 b13 b14 → μ b1 b2 b3 b4 b5 b6 b7 b8 b9 b10 b11 b12 b13 b14 < μ a1 a2 a3 a4 a5 a6 a7 a8 a9 a10 a11 a12 a13 a14 → W n b1 b2 b3 b4 b5 b6 b7 b8 b9 b10 b11 b12 b13 b14) → W (n + 1) a1 a2 a3 a4 a5 a6 a7 a8 a9 a10 a11 a12 a13 a14) (a1 : A1) (a2 : A2) (a3 : A3) (a4 : A4) (a5 : A5) (a6 : A6) (a7 : A7) (a8 : A8) (a9 : A9) (a10 : A10) (a11 : A11) (a12 : A12) (a13 : A13) (a14 : A14) (h : I a1 a2 a3 a4 a5 a6 a7 a8 a9 a10 a11 a12 a13 a14) : ∃ n, W n a1 a2 a3 a4 a5 a6 a7 a8 a9 a10 a11 a12 a13 a14 :=
  loop_m (σ := A1 × A2 × A3 × A4 × A5 × A6 × A7 × A8 × A9 × A10 × A11 × A12 × A13 × A14) (fun n s => W n s.1 s.2.1 s.2.2.1 s.2.2.2.1 s.2.2.2.2.1 s.2.2.2.2.2.1 s.2.2.2.2.2.2.1 s.2.2.2.2.2.2.2.1 s.2.2.2.2.2.2.2.2.1 s.2.2.2.2.2.2.2.2.2.1 s.2.2.2.2.2.2.2.2.2.2.1 s.2.2.2.2.2.2.2.2.2.2.2.1 s.2.2.2.2.2.2.2.2.2.2.2.2.1 s.2.2.2.2.2.2.2.2.2.2.2.2.2) (fun s => I s.1 s.2.1 s.2.2.1 s.2.2.2.1 s.2.2.2.2.1 s.2.2.2.2.2.1 s.2.2.2.2.2.2.1 s.2.2.2.2.2.2.2.1 s.2.2.2.2.2.2.2.2.1 s.2.2.2.2.2.2.2.2.2.1 s.2.2.2.2.2.2.2.2.2.2.1 s.2.2.2.2.2.2.2.2.2.2.2.1 s.2.2.2.2.2.2.2.2.2.2.2.2.1 s.2.2.2.2.2.2.2.2.2.2.2.2.2) (fun s => μ s.1 s.2.1 s.2.2.1 s.2.2.2.1 s.2.2.2.2.1 s.2.2.2.2.2.1 s.2.2.2.2.2.2.1 s.2.2.2.2.2.2.2.1 s.2.2.2.2.2.2.2.2.1 s.2.2.2.2.2.2.2.2.2.1 s.2.2.2.2.2.2.2.2.2.2.1 s.2.2.2.2.2.2.2.2.2.2.2.1 s.2.2.2.2.2.2.2.2.2.2.2.2.1 s.2.2.2.2.2.2.2.2.2.2.2.2.2) (fun n s hI hk => hs n s.1 s.2.1 s.2.2.1 s.2.2.2.1 s.2.2.2.2.1 s.2.2.2.2.2.1 s.2.2.2.2.2.2.1 s.2.2.2.2.2.2.2.1 s.2.2.2.2.2.2.2.2.1 s.2.2.2.2.2.2.2.2.2.1 s.2.2.2.2.2.2.2.2.2.2.1 s.2.2.2.2.2.2.2.2.2.2.2.1 s.2.2.2.2.2.2.2.2.2.2.2.2.1 s.2.2.2.2.2.2.2.2.2.2.2.2.2 hI (fun b1 b2 b3 b4 b5 b6 b7 b8 b9 b10 b11 b12 b13 b14 h9 hm => hk (b1, b2, b3, b4, b5, b6, b7, b8, b9, b10, b11, b12, b13, b14) h9 hm)) (a1, a2, a3, a4, a5, a6, a7, a8, a9, a10, a11, a12, a13, a14) h
theorem lp15 {A1 A2 A3 A4 A5 A6 A7 A8 A9 A10 A11 A12 A13 A14 A15 : Type} (W : Nat → A1 → A2 → A3 → A4 → A5 → A6 → A7 → A8 → A9 → A10 → A11 → A12 → A13 → A14 → A15 → Prop) (I : A1 → A2 → A3 → A4 → A5 → A6 → A7 → A8 → A9 → A10 → A11 → A12 → A13 → A14 → A15 → Prop) (μ : A1 → A2 → A3 → A4 → A5 → A6 → A7 → A8 → A9 → A10 → A11 → A12 → A13 → A14 → A15 → Nat) (hs : ∀ (n : Nat) (a1 : A1) (a2 : A2) (a3 : A3) (a4 : A4) (a5 : A5) (a6 : A6) (a7 : A7) (a8 : A8) (a9 : A9) (a10 : A10) (a11 : A11) (a12 : A12) (a13 : A13) (a14 : A14) (a15 : A15), I a1 a2 a3 a4 a5 a6 a7 a8 a9 a10 a11 a12 a13 a14 a15 → (∀ (b1 : A1) (b2 : A2) (b3 : A3) (b4 : A4) (b5 : A5) (b6 : A6) (b7 : A7) (b8 : A8) (b9 : A9) (b10 : A10) (b11 : A11) (b12 : A12) (b13 : A13) (b14 : A14) (b15 : A15), I b1 b2 b3 b4 b5 b6 b7 b8 b9 b10 b11 b12 b13 b14 b15 → μ b1 b2 b3 b4 b5 b6 b7 b8 b9 b10 b11 b12 b13 b14 b15 < μ a1 a2 a3 a4 a5 a6 a7 a8 a9 a10 a11 a12 a13 a14 a15 → W n b1 b2 b3 b4 b5 b6 b7 b8 b9 b10 b11 b12 b13 b14 b15) → W (n + 1) a1 a2 a3 a4 a5 a6 a7 a8 a9 a10 a11 a12 a13 a14 a15) (a1 : A1) (a2 : A2) (a3 : A3) (a4 : A4) (a5 : A5) (a6 : A6) (a7 : A7) (a8 : A8) (a9 : A9) (a10 : A10) (a11 : A11) (a12 : A12) (a13 : A13) (a14 : A14) (a15 : A15) (h : I a1 a2 a3 a4 a5 a6 a7 a8 a9 a10 a11 a12 a13 a14 a15) : ∃ n, W n a1 a2 a3 a4 a5 a6 a7 a8 a9 a10 a11 a12 a13 a14 a15 :=
  loop_m (σ := A1 × A2 × A3 × A4 × A5 × A6 × A7 × A8 × A9 × A10 × A11 × A12 × A13 × A14 × A15) (fun n s => W n s.1 s.2.1 s.2.2.1 s.2.2.2.1 s.2.2.2.2.1 s.2.2.2.2.2.1 s.2.2.2.2.2.2.1 s.2.2.2.2.2.2.2.1 s.2.2.2.2.2.2.2.2.1 s.2.2.2.2.2.2.2.2.2.1 s.2.2.2.2.2.2.2.2.2.2.1 s.2.2.2.2.2.2.2.2.2.2.2.1 s.2.2.2.2.2.2.2.2.2.2.2.2.1 s.2.2.2.2.2.2.2.2.2.2.2.2.2.1 s.2.2.2.2.2.2.2.2.2.2.2.2.2.2) (fun s => I s.1 s.2.1 s.2.2.1 s.2.2.2.1 s.2.2.2.2.1 s.2.2.2.2.2.1 s.2.2.2.2.2.2.1 s.2.2.2.2.2.2.2.1 s.2.2.2.2.2.2.2.2.1 s.2.2.2.2.2.2.2.2.2.1 s.2.2.2.2.2.2.2.2.2.2.1 s.2.2.2.2.2.2.2.2.2.2.2.1 s.2.2.2.2.2.2.2.2.2.2.2.2.1 s.2.2.2.2.2.2.2.2.2.2.2.2.2.1 s.2.2.2.2.2.2.2.2.2.2.2.2.2.2) (fun s => μ s.1 s.2.1 s.2.2.1 s.2.2.2.1 s.2.2.2.2.1 s.2.2.2.2.2.1 s.2.2.2.2.2.2.1 s.2.2.2.2.2.2.2.1 s.2.2.2.2.2.2.2.2.1 s.2.2.2.2.2.2.2.2.2.1 s.2.2.2.2.2.2.2.2.2.2.1 s.2.2.2.2.2.2.2.2.2.2.2.1 s.2.2.2.2.2.2.2.2.2.2.2.2.1 s.2.2.2.2.2.2.2.2.2.2.2.2.2.1 s.2.2.2.2.2.2.2.2.2.2.2.2.2.2) (fun n s hI hk => hs n s.1 s.2.1 s.2.2.1 s.2.2.2.1 s.2.2.2.2.1 s.2.2.2.2.2.1 s.2.2.2.2.2.2.1 s.2.2.2.2.2.2.2.1 s.2.2.2.2.2.2.2.2.1 s.2.2.2.2.2.2.2.2.2.1 s.2.2.2.2.2.2.2.2.2.2.1 s.2.2.2.2.2.2.2.2.2.2.2.1 s.2.2.2.2.2.2.2.2.2.2.2.2.1 s.2.2.2.2.2.2.2.2.2.2.2.2.2.1 s.2.2.2.2.2.2.2.2.2.2.2.2.2.2 hI (fun b1 b2 b3 b4 b5 b6 b7 b8 b9 b10 b11 b12 b13 b14 b15 h9 hm => hk (b1, b2, b3, b4, b5, b6, b7, b8, b9, b10, b11, b12, b13, b14, b15) h9 hm)) (a1, a2, a3, a4, a5, a6, a7, a8, a9, a10, a11, a12, a13, a14, a15) h
theorem lp16 {A1 A2 A3 A4 A5 A6 A7 A8 A9 A10 A11 A12 A13 A14 A15 A16 : Type} (W : Nat → A1 → A2 → A3 → A4 → A5 → A6 → A7 → A8 → A9 → A10 → A11 → A12 → A13 → A14 → A15 → A16 → Prop) (I : A1 → A2 → A3 → A4 → A5 → A6 → A7 → A8 → A9 → A10 → A11 → A12 → A13 → A14 → A15 → A16 → Prop) (μ : A1 → A2 → A3 → A4 → A5 → A6 → A7 → A8 → A9 → A10 → A11 → A12 → A13 → A14 → A15 → A16 → Nat) (hs : ∀ (n : Nat) (a1 : A1) (a2 : A2) (a3 : A3) (a4 : A4) (a5 : A5) (a6 : A6) (a7 : A7) (a8 : A8) (a9 : A9) (a10 : A10) (a11 : A11) (a12 : A12) (a13 : A13) (a14 : A14) (a15 : A15) (a16 : A16), I a1 a2 a3 a4 a5 a6 a7 a8 a9 a10 a11 a12 a13 a14 a15 a16 → (∀ (b1 : A1) (b2 : A2) (b3 : A3) (b4 : A4) (b5 : A5) (b6 : A6) (b7 : A7) (b8 : A8) (b9 : A9) (b10 : A10) (b11 : A11) (b12 : A12) (b13 : A13) (b14 : A14) (b15 : A15) (b16 : A16), I b1 b2 b3 b4 b5 b6 b7 b8 b9 b10 b11 b12 b13 b14 b15 b16 → μ b1 b2 b3 b4 b5 b6 b7 b8 b9 b10 b11 b12 b13 b14 b15 b16 < μ a1 a2 a3 a4 a5 a6 a7 a8 a9 a10 a11 a12 a13 a14 a15 a16 → W n b1 b2 b3 b4 b5 b6 b7 b8 b9 b10 b11 b12 b13 b14 b15 b16) → W (n + 1) a1 a2 a3 a4 a5 a6 a7 a8 a9 a10 a11 a12 a13 a14 a15 a16) (a1 : A1) (a2 : A2) (a3 : A3) (a4 : A4) (a5 : A5) (a6 : A6) (a7 : A7) (a8 : A8) (a9 : A9) (a10 : A10) (a11 : A11) (a12 : A12) (a13 : A13) (a14 : A14) (a15 : A15) (a16 : A16) (h : I a1 a2 a3 a4 a5 a6 a7 a8 a9 a10 a11 a12 a13 a14 a15 a16) : ∃ n, W n a1 a2 a3 a4 a5 a6 a7 a8 a9 a10 a11 a12 a13 a14 a15 a16 :=
  loop_m (σ := A1 × A2 × A3 × A4 × A5 × A6 × A7 × A8 × A9 × A10 × A11 × A12 × A13 × A14 × A15 × A16) (fun n s => W n s.1 s.2.1 s.2.2.1 s.2.2.2.1 s.2.2.2.2.1 s.2.2.2.2.2.1 s.2.2.2.2.2.2.1 s.2.2.2.2.2.2.2.1 s.2.2.2.2.2.2.2.2.1 s.2.2.2.2.2.2.2.2.2.1 s.2.2.2.2.2.2.2.2.2.2.1 s.2.2.2.2.2.2.2.2.2.2.2.1 s.2.2.2.2.2.2.2.2.2.2.2.2.1 s.2.2.2.2.2.2.2.2.2.2.2.2.2.1 s.2.2.2.2.2.2.2.2.2.2.2.2.2.2.1 s.2.2.2.2.2.2.2.2.2.2.2.2.2.2.2) (fun s => I s.1 s.2.1 s.2.2.1 s.2.2.2.1 s.2.2.2.2.1 s.2.2.2.2.2.1 s.2.2.2.2.2.2.1 s.2.2.2.2.2.2.2.1 s.2.2.2.2.2.2.2.2.1 s.2.2.2.2.2.2.2.2.2.1 s.2.2.2.2.2.2.2.2.2.2.1 s.2.2.2.2.2.2.2.2.2.2.2.1 s.2.2.2.2.2.2.2.2.2.2.2.2.1 s.2.2.2.2.2.2.2.2.2.2.2.2.2.1 s.2.2.2.2.2.2.2.2.2.2.2.2.2.2.1 s.2.2.2.2.2.2.2.2.2.2.2.2.2.2.2) (fun s => μ s.1 s.2.1 s.2.2.1 s.2.2.2.1 s.2.2.2.2.1 s.2.2.2.2.2.1 s.2.2.2.2.2.2.1 s.2.2.2.2.2.2.2.1 s.2.2.2.2.2.2.2.2.1 s.2.2.2.2.2.2.2.2.2.1 s.2.2.2.2.2.2.2.2.2.2.1 s.2.2.2.2.2.2.2.2.2.2.2.1 s.2.2.2.2.2.2.2.2.2.2.2.2.1 s.2.2.2.2.2.2.2.2.2.2.2.2.2.1 s.2.2.2.2.2.2.2.2.2.2.2.2.2.2.1 s.2.2.2.2.2.2.2.2.2.2.2.2.2.2.2) (fun n s hI hk => hs n s.1 s.2.1 s.2.2.1 s.2.2.2.1 s.2.2.2.2.1 s.2.2.2.2.2.1 s.2.2.2.2.2.2.1 s.2.2.2.2.2.2.2.1 s.2.2.2.2.2.2.2.2.1 s.2.2.2.2.2.2.2.2.2.1 s.2.2.2.2.2.2.2.2.2.2.1 s.2.2.2.2.2.2.2.2.2.2.2.1 s.2.2.2.2.2.2.2.2.2.2.2.2.1 s.2.2.2.2.2.2.2.2.2.2.2.2.2.1 s.2.2.2.2.2.2.2.2.2.2.2.2.2.2.1 s.2.2.2.2.2.2.2.2.2.2.2.2.2.2.2 hI (fun b1 b2 b3 b4 b5 b6 b7 b8 b9 b10 b11 b12 b13 b14 b15 b16 h9 hm => hk (b1, b2, b3, b4, b5, b6, b7, b8, b9, b10, b11, b12, b13, b14, b15, b16) h9 hm)) (a1, a2, a3, a4, a5, a6, a7, a8, a9, a10, a11, a12, a13, a14, a15, a16) h
theorem pk_least (P : Nat → Prop) (h : ∃ k, P k) : ∃ k, P k ∧ ∀ j, j < k → ¬ P j := by
  obtain ⟨k, hk⟩ := h
  induction k using Nat.strongRecOn with
  | ind k ih =>
    by_cases e : ∃ j, j < k ∧ P j
    · obtain ⟨j, hj, pj⟩ := e
      exact ih j hj pj
    · exact ⟨k, hk, fun j hj pj => e ⟨j, hj, pj⟩⟩
theorem rp1 {ρ A1 : Type} (W : Nat → (ρ → Prop) → A1 → Prop) (ok : A1 → Prop) (μ : A1 → Nat) (val : A1 → ρ)
    (hs : ∀ (d : Nat) (post : ρ → Prop) (a1 : A1), ok a1 → post (val a1) → (∀ (post' : ρ → Prop) (b1 : A1), ok b1 → μ b1 < μ a1 → post' (val b1) → W d post' b1) → W (d + 1) post a1) :
    ∀ (d : Nat) (post : ρ → Prop) (a1 : A1), ok a1 → μ a1 < d → post (val a1) → W d post a1 := by
  intro d
  induction d with
  | zero => intro post a1 _ h; omega
  | succ d ih =>
    intro post a1 ho hm hp
    exact hs d post a1 ho hp (fun post' b1 ho' hm' hp' => ih post' b1 ho' (by omega) hp')
theorem rp2 {ρ A1 A2 : Type} (W : Nat → (ρ → Prop) → A1 → A2 → Prop) (ok : A1 → A2 → Prop) (μ : A1 → A2 → Nat) (val : A1 → A2 → ρ)
    (hs : ∀ (d : Nat) (post : ρ → Prop) (a1 : A1) (a2 : A2), ok a1 a2 → post (val a1 a2) → (∀ (post' : ρ → Prop) (b1 : A1) (b2 : A2), ok b1 b2 → μ b1 b2 < μ a1 a2 → post' (val b1 b2) → W d post' b1 b2) → W (d + 1) post a1 a2) :
    ∀ (d : Nat) (post : ρ → Prop) (a1 : A1) (a2 : A2), ok a1 a2 → μ a1 a2 < d → post (val a1 a2) → W d post a1 a2 := by
  intro d
  induction d with
  | zero => intro post a1 a2 _ h; omega
  | succ d ih =>
    intro post a1 a2 ho hm hp
    exact hs d post a1 a2 ho hp (fun post' b1 b2 ho' hm' hp' => ih post' b1 b2 ho' (by omega) hp')
theorem rp3 {ρ A1 A2 A3 : Type} (W : Nat → (ρ → Prop) → A1 → A2 → A3 → Prop) (ok : A1 → A2 → A3 → Prop) (μ : A1 → A2 → A3 → Nat) (val : A1 → A2 → A3 → ρ)
    (hs : ∀ (d : Nat) (post : ρ → Prop) (a1 : A1) (a2 : A2) (a3 : A3), ok a1 a2 a3 → post (val a1 a2 a3) → (∀ (post' : ρ → Prop) (b1 : A1) (b2 : A2) (b3 : A3), ok b1 b2 b3 → μ b1 b2 b3 < μ a1 a2 a3 → post' (val b1 b2 b3) → W d post' b1 b2 b3) → W (d + 1) post a1 a2 a3) :
    ∀ (d : Nat) (post : ρ → Prop) (a1 : A1) (a2 : A2) (a3 : A3), ok a1 a2 a3 → μ a1 a2 a3 < d → post (val a1 a2 a3) → W d post a1 a2 a3 := by
  intro d
  induction d with
  | zero => intro post a1 a2 a3 _ h; omega
  | succ d ih =>
    intro post a1 a2 a3 ho hm hp
    exact hs d post a1 a2 a3 ho hp (fun post' b1 b2 b3 ho' hm' hp' => ih post' b1 b2 b3 ho' (by omega) hp')
theorem rp4 {ρ A1 A2 A3 A4 : Type} (W : Nat → (ρ → Prop) → A1 → A2 → A3 → A4 → Prop) (ok : A1 → A2 → A3 → A4 → Prop) (μ : A1 → A2 → A3 → A4 → Nat) (val : A1 → A2 → A3 → A4 → ρ)
    (hs : ∀ (d : Nat) (post : ρ → Prop) (a1 : A1) (a2 : A2) (a3 : A3) (a4 : A4), ok a1 a2 a3 a4 → post (val a1 a2 a3 a4) → (∀ (post' : ρ → Prop) (b1 : A1) (b2 : A2) (b3 : A3) (b4 : A4), ok b1 b2 b3 b4 → μ b1 b2 b3 b4 < μ a1 a2 a3 a4 → post' (val b1 b2 b3 b4) → W d post' b1 b2 b3 b4) → W (d + 1) post a1 a2 a3 a4) :
    ∀ (d : Nat) (post : ρ → Prop) (a1 : A1) (a2 : A2) (a3 : A3) (a4 : A4), ok a1 a2 a3 a4 → μ a1 a2 a3 a4 < d → post (val a1 a2 a3 a4) → W d post a1 a2 a3 a4 := by
  intro d
  induction d with
  | zero => intro post a1 a2 a3 a4 _ h; omega
  | succ d ih =>
    intro post a1 a2 a3 a4 ho hm hp
    exact hs d post a1 a2 a3 a4 ho hp (fun post' b1 b2 b3 b4 ho' hm' hp' => ih post' b1 b2 b3 b4 ho' (by omega) hp')
theorem rp5 {ρ A1 A2 A3 A4 A5 : Type} (W : Nat → (ρ → Prop) → A1 → A2 → A3 → A4 → A5 → Prop) (ok : A1 → A2 → A3 → A4 → A5 → Prop) (μ : A1 → A2 → A3 → A4 → A5 → Nat) (val : A1 → A2 → A3 → A4 → A5 → ρ)
    (hs : ∀ (d : Nat) (post : ρ → Prop) (a1 : A1) (a2 : A2) (a3 : A3) (a4 : A4) (a5 : A5), ok a1 a2 a3 a4 a5 → post (val a1 a2 a3 a4 a5) → (∀ (post' : ρ → Prop) (b1 : A1) (b2 : A2) (b3 : A3) (b4 : A4) (b5 : A5), ok b1 b2 b3 b4 b5 → μ b1 b2 b3 b4 b5 < μ a1 a2 a3 a4 a5 → post' (val b1 b2 b3 b4 b5) → W d post' b1 b2 b3 b4 b5) → W (d + 1) post a1 a2 a3 a4 a5) :
    ∀ (d : Nat) (post : ρ → Prop) (a1 : A1) (a2 : A2) (a3 : A3) (a4 : A4) (a5 : A5), ok a1 a2 a3 a4 a5 → μ a1 a2 a3 a4 a5 < d → post (val a1 a2 a3 a4 a5) → W d post a1 a2 a3 a4 a5 := by
  intro d
  induction d with
  | zero => intro post a1 a2 a3 a4 a5 _ h; omega
  | succ d ih =>
    intro post a1 a2 a3 a4 a5 ho hm hp
    exact hs d post a1 a2 a3 a4 a5 ho hp (fun post' b1 b2 b3 b4 b5 ho' hm' hp' => ih post' b1 b2 b3 b4 b5 ho' (by omega) hp')
theorem rp6 {ρ A1 A2 A3 A4 A5 A6 : Type} (W : Nat → (ρ → Prop) → A1 → A2 → A3 → A4 → A5 → A6 → Prop) (ok : A1 → A2 → A3 → A4 → A5 → A6 → Prop) (μ : A1 → A2 → A3 → A4 → A5 → A6 → Nat) (val : A1 → A2 → A3 → A4 → A5 → A6 → ρ)
    (hs : ∀ (d : Nat) (post : ρ → Prop) (a1 : A1) (a2 : A2) (a3 : A3) (a4 : A4) (a5 : A5) (a6 : A6), ok a1 a2 a3 a4 a5 a6 → post (val a1 a2 a3 a4 a5 a6) → (∀ (post' : ρ → Prop) (b1 : A1) (b2 : A2) (b3 : A3) (b4 : A4) (b5 : A5) (b6 : A6), ok b1 b2 b3 b4 b5 b6 → μ b1 b2 b3 b4 b5 b6 < μ a1 a2 a3 a4 a5 a6 → post' (val b1 b2 b3 b4 b5 b6) → W d post' b1 b2 b3 b4 b5 b6) → W (d + 1) post a1 a2 a3 a4 a5 a6) :
    ∀ (d : Nat) (post : ρ → Prop) (a1 : A1) (a2 : A2) (a3 : A3) (a4 : A4) (a5 : A5) (a6 : A6), ok a1 a2 a3 a4 a5 a6 → μ a1 a2 a3 a4 a5 a6 < d → post (val a1 a2 a3 a4 a5 a6) → W d post a1 a2 a3 a4 a5 a6 := by
  intro d
  induction d with
  | zero => intro post a1 a2 a3 a4 a5 a6 _ h; omega
  | succ d ih =>
    intro post a1 a2 a3 a4 a5 a6 ho hm hp
    exact hs d post a1 a2 a3 a4 a5 a6 ho hp (fun post' b1 b2 b3 b4 b5 b6 ho' hm' hp' => ih post' b1 b2 b3 b4 b5 b6 ho' (by omega) hp')
theorem rec_p {σ ρ : Type} (W : Nat → (ρ → Prop) → σ → Prop) (ok : σ → Prop) (μ : σ → Nat) (val : σ → ρ)
    (hs : ∀ d s post, ok s → post (val s) → (∀ s' post', ok s' → μ s' < μ s → post' (val s') → W d post' s') → W (d + 1) post s) :
    ∀ d s post, ok s → μ s < d → post (val s) → W d post s := by
  intro d
  induction d with
  | zero => intro s post _ h; omega
  | succ d ih =>
    intro s post ho hm hp
    exact hs d s post ho hp (fun s' post' ho' hm' hp' => ih s' post' ho' (by omega) hp')
theorem rec_q {σ ρ : Type} (W : Nat → (ρ → Prop) → σ → Prop) (ok : σ → Prop) (μ : σ → Nat) (Q : σ → ρ → Prop)
    (hs : ∀ d s post, ok s → (∀ r, Q s r → post r) → (∀ s' post', ok s' → μ s' < μ s → (∀ r, Q s' r → post' r) → W d post' s') → W (d + 1) post s) :
    ∀ d s post, ok s → μ s < d → (∀ r, Q s r → post r) → W d post s := by
  intro d
  induction d with
  | zero => intro s post _ h; omega
  | succ d ih =>
    intro s post ho hm hp
    exact hs d s post ho hp (fun s' post' ho' hm' hp' => ih s' post' ho' (by omega) hp')
def bx_sum (f : Nat → Int32) : Nat → Int32
  | 0 => 0
  | n + 1 => bx_sum f n + f n
theorem ek_u {A : Prop} {B : Nat → Prop} {k N : Nat} (hk : k < N) (h : B k) : (some k = none → A) ∧ (∀ y : Nat, some k = some y → (y < N ∧ B y)) :=
  ⟨fun z => absurd z (Option.some_ne_none k), fun _ e => (by cases e; exact ⟨hk, h⟩)⟩
theorem ek_nu {A : Prop} {B : Nat → Prop} (h : A) : ((none : Option Nat) = none → A) ∧ (∀ y : Nat, (none : Option Nat) = some y → B y) :=
  ⟨fun _ => h, fun _ e => (by cases e)⟩
theorem ek_if {c d A B : Prop} (e : c ↔ d) (f : d → A) (g : ¬ d → B) : (c → A) ∧ (¬ c → B) :=
  ⟨fun z => f (e.mp z), fun z => g (fun y => z (e.mpr y))⟩
theorem ek_v {α : Sort _} {P : α → Prop} {a b : α} (e : a = b) (h : P b) : P a := e ▸ h
theorem co_some {x : Option Nat} {A : Prop} {B : Nat → Prop} (i : Nat) (h : B i) (hx : x = some i := by rfl) : (x = none → A) ∧ (∀ y : Nat, x = some y → B y) := by
  subst hx
  exact ⟨fun e => (nomatch e), fun y e => Option.some.inj e ▸ h⟩
theorem co_none {x : Option Nat} {A : Prop} {B : Nat → Prop} (h : A) (hx : x = none := by rfl) : (x = none → A) ∧ (∀ y : Nat, x = some y → B y) := by
  subst hx
  exact ⟨fun _ => h, fun y e => (nomatch e)⟩
theorem co_any {x : Option Nat} {A : Prop} {B : Nat → Prop} (hn : x = none → A) (hs : ∀ i : Nat, x = some i → B i) : (x = none → A) ∧ (∀ y : Nat, x = some y → B y) := ⟨hn, hs⟩
theorem co_2 {P : Nat → Prop} (h0 : P 0) (h1 : P 1) {i : Nat} (hi : i < 2) : P i :=
  match i, hi with
  | 0, _ => h0
  | 1, _ => h1
theorem co_3 {P : Nat → Prop} (h0 : P 0) (h1 : P 1) (h2 : P 2) {i : Nat} (hi : i < 3) : P i :=
  match i, hi with
  | 0, _ => h0
  | 1, _ => h1
  | 2, _ => h2
theorem co_4 {P : Nat → Prop} (h0 : P 0) (h1 : P 1) (h2 : P 2) (h3 : P 3) {i : Nat} (hi : i < 4) : P i :=
  match i, hi with
  | 0, _ => h0
  | 1, _ => h1
  | 2, _ => h2
  | 3, _ => h3
theorem co_dec {N : Nat} {P : Nat → Prop} [DecidablePred P] (h : (List.range N).all (fun i => decide (P i)) = true) {i : Nat} (hi : i < N) : P i := by
  have := List.all_eq_true.mp h i (List.mem_range.mpr hi)
  exact of_decide_eq_true this
theorem co_tab {α : Type} {l : List α} {d : α} {P : α → Prop} (h : ∀ a, a ∈ l → P a) {i : Nat} (hi : i < l.length) : P (l.getD i d) := by
  rw [List.getD_eq_getElem?_getD, List.getElem?_eq_getElem hi]
  exact h _ (List.getElem_mem hi)
theorem pk_mu {x : Int32} {L : Nat} (h0 : ¬ x < 0) (h : ¬ nI L ≤ x) (hL : L < 2 ^ 31) : ∃ j : Nat, j < L ∧ x = nI j ∧ x + 1 = nI (j + 1) ∧ x.toNatClampNeg = j ∧ L - (x + 1).toNatClampNeg < L - x.toNatClampNeg := by
  obtain ⟨j, hj, rfl⟩ := nI_of h0
  have hl : j < L := Nat.not_le.mp fun q => h (nI_le q hj)
  refine ⟨j, hl, rfl, nI_1 j, nI_clamp hj, ?_⟩
  rw [nI_1, nI_clamp (by omega), nI_clamp hj]
  omega
theorem op_s {α : Type} {r : Option α} {A : Prop} {B : α → Prop} {y : α} (h : r = some y) (b : B y) : (r = none → A) ∧ ∀ z, r = some z → B z :=
  ⟨fun e => (by rw [h] at e; cases e), fun z e => (by rw [h] at e; cases e; exact b)⟩
def l_holds {α : Type} (a : Nat → Option Nat) (LP : List Nat) (p : Nat → α) (c : Nat) (b : Nat → α) : Prop :=
  ∀ j, j < c → ∃ y, a j = some y ∧ y ∈ LP ∧ p y = b j
theorem l_holds_0 {α : Type} {a : Nat → Option Nat} {LP : List Nat} {p b : Nat → α} : l_holds a LP p 0 b := fun j h => absurd h (Nat.not_lt_zero j)
theorem l_in_new (LP : List Nat) (q : Nat) : q ∈ LP ++ [q] := List.mem_append.mpr (Or.inr (List.mem_singleton.mpr rfl))
def l_sum (b : Nat → Int32) : Nat → Int32
  | 0 => 0
  | k + 1 => l_sum b k + b k
theorem sb_shr0 (x : Int32) : x >>> ((0 : Int32) &&& 31) = x := by
  rw [show ((0 : Int32) &&& 31) = 0 by decide]
  simp
theorem sb_shl0 (x : Int32) : x <<< ((0 : Int32) &&& 31) = x := by
  rw [show ((0 : Int32) &&& 31) = 0 by decide]
  simp
theorem sb_cl0 : (0 : Int32).toNatClampNeg = 0 := by decide
theorem sb_m1 {p : Nat} (h : 0 < p) : nI p + (-1) = nI (p - 1) := by
  obtain ⟨q, rfl⟩ : ∃ q, p = q + 1 := ⟨p - 1, by omega⟩
  exact pk_m1 q
def sb_b (c : Nat) : Int32 := (nI c).toInt8.toInt32
theorem sb_byte : ∀ c, c < 256 → sb_b c &&& 255 = nI c ∧ ((nI c).toUInt32 % 65536).toInt32 = nI c ∧ nI c ≤ 255 := by decide +kernel
def sb_Fit (a : Nat → Int32) : Prop := ∀ j, fits .byte (.int (a j)) = true
def sb_Lat (t : Nat → Nat) (n : Nat) (a : Nat → Int32) : Prop := ∀ j, j < n → t j < 256 ∧ a j = sb_b (t j)
theorem sb_fitB (c : Nat) : fits .byte (.int (sb_b c)) = true := pk_fb _
theorem sb_fit0 : sb_Fit (fun _ => 0) := fun _ => by
  show fits .byte (.int 0) = true
  decide
theorem sb_fitU {a : Nat → Int32} {k : Nat} {x : Int32} (h : sb_Fit a) (hx : fits .byte (.int x) = true) : sb_Fit (upd a k x) := by
  intro j
  by_cases e : j = k
  · subst e
    rw [pk_us]
    exact hx
  · rw [pk_un e]
    exact h j
def sb_cat (t : Nat → Nat) (n : Nat) (s : Nat → Nat) : Nat → Nat := fun j => if j < n then t j else s (j - n)
theorem sb_cat_lo {t s : Nat → Nat} {n j : Nat} (h : j < n) : sb_cat t n s j = t j := if_pos h
theorem sb_cat_hi {t s : Nat → Nat} {n j : Nat} : sb_cat t n s (n + j) = s j := by
  show (if n + j < n then t (n + j) else s (n + j - n)) = s j
  rw [if_neg (by omega), Nat.add_sub_cancel_left]
theorem sb_latPut {t s : Nat → Nat} {n w : Nat} {a a' : Nat → Int32} (h : sb_Lat t n a) (hk : ∀ j, j < n → a' j = a j) (hs : ∀ i, i < w → s i < 256 ∧ a' (n + i) = sb_b (s i)) : sb_Lat (sb_cat t n s) (n + w) a' := by
  intro j hj
  by_cases e : j < n
  · rw [sb_cat_lo e, hk j e]
    exact h j e
  · obtain ⟨i, rfl⟩ : ∃ i, j = n + i := ⟨j - n, by omega⟩
    rw [sb_cat_hi]
    exact hs i (by omega)
theorem sb_latKeep {t : Nat → Nat} {n : Nat} {a a' : Nat → Int32} (h : sb_Lat t n a) (hk : ∀ j, j < n → a' j = a j) : sb_Lat t n a' := fun j hj => by
  rw [hk j hj]
  exact h j hj
def sb_cap (q m : Nat) : Nat := if q ≤ m then m else if 2 * m + 2 < q then q else 2 * m + 2
def sb_Room (q m mc ms : Nat) : Prop := q ≤ m ∨ (1 ≤ mc ∧ sb_cap q m ≤ ms ∧ sb_cap q m ≤ 65536)
theorem sb_cap_ge (q m : Nat) : q ≤ sb_cap q m := by
  unfold sb_cap
  split
  · omega
  · split <;> omega
theorem sb_cap_gem (q m : Nat) : m ≤ sb_cap q m := by
  unfold sb_cap
  split
  · omega
  · split <;> omega
theorem sb_cap_le {q m mc ms : Nat} (hm : m ≤ 65536) (hr : sb_Room q m mc ms) : sb_cap q m ≤ 65536 := by
  rcases hr with h | h
  · rw [sb_cap, if_pos h]
    exact hm
  · exact h.2.2
theorem sb_at {P : Int32 → Prop} {x y : Int32} (e : x = y) (h : P y) : P x := e ▸ h
def sb_dg (w : Nat) : Nat := if w < 10 then 1 else if w < 100 then 2 else if w < 1000 then 3 else if w < 10000 then 4 else if w < 100000 then 5 else if w < 1000000 then 6 else if w < 10000000 then 7 else if w < 100000000 then 8 else if w < 1000000000 then 9 else 10
def sb_dec (v : Nat) : Nat → Nat := fun i => 48 + v / 10 ^ (sb_dg v - 1 - i) % 10
theorem sb_dg_in (w : Nat) : 1 ≤ sb_dg w ∧ sb_dg w ≤ 10 := by
  unfold sb_dg
  constructor <;> (repeat' split) <;> omega
theorem sb_dg100 {w : Nat} (h : 100 ≤ w) (hw : w < 2 ^ 31) : sb_dg w = sb_dg (w / 100) + 2 := by
  rw [sb_dg, sb_dg, if_neg (show ¬ w < 10 by omega), if_neg (show ¬ w < 100 by omega)]
  by_cases h3 : w < 1000
  · rw [if_pos h3, if_pos (show w / 100 < 10 by omega)]
  rw [if_neg h3, if_neg (show ¬ w / 100 < 10 by omega)]
  by_cases h4 : w < 10000
  · rw [if_pos h4, if_pos (show w / 100 < 100 by omega)]
  rw [if_neg h4, if_neg (show ¬ w / 100 < 100 by omega)]
  by_cases h5 : w < 100000
  · rw [if_pos h5, if_pos (show w / 100 < 1000 by omega)]
  rw [if_neg h5, if_neg (show ¬ w / 100 < 1000 by omega)]
  by_cases h6 : w < 1000000
  · rw [if_pos h6, if_pos (show w / 100 < 10000 by omega)]
  rw [if_neg h6, if_neg (show ¬ w / 100 < 10000 by omega)]
  by_cases h7 : w < 10000000
  · rw [if_pos h7, if_pos (show w / 100 < 100000 by omega)]
  rw [if_neg h7, if_neg (show ¬ w / 100 < 100000 by omega)]
  by_cases h8 : w < 100000000
  · rw [if_pos h8, if_pos (show w / 100 < 1000000 by omega)]
  rw [if_neg h8, if_neg (show ¬ w / 100 < 1000000 by omega)]
  by_cases h9 : w < 1000000000
  · rw [if_pos h9, if_pos (show w / 100 < 10000000 by omega)]
  rw [if_neg h9, if_neg (show ¬ w / 100 < 10000000 by omega)]
  rw [if_pos (show w / 100 < 100000000 by omega)]
theorem sb_negT {w : Nat} (h : w < 2 ^ 31) : (-nI w).toInt = -(w : Int) := by
  rw [Int32.toInt_neg, nI_toInt h]
  exact Int.bmod_eq_of_le (by omega) (by omega)
theorem sb_nle {a b : Nat} (ha : a < 2 ^ 31) (hb : b < 2 ^ 31) : -nI a ≤ -nI b ↔ b ≤ a := by
  rw [Int32.le_iff_toInt_le, sb_negT ha, sb_negT hb]
  omega
theorem sb_nlt {a b : Nat} (ha : a < 2 ^ 31) (hb : b < 2 ^ 31) : -nI a < -nI b ↔ b < a := by
  rw [Int32.lt_iff_toInt_lt, sb_negT ha, sb_negT hb]
  omega
theorem sb_cmp {A B : Prop} {x : Int32} (v c : Nat) (f : c ≤ v → A) (g : v < c → B) (hv : v < 2 ^ 31) (hx : x = -nI c := by rfl) (hc : c < 2 ^ 31 := by omega) : (-nI v ≤ x → A) ∧ (¬ -nI v ≤ x → B) := by
  subst hx
  rw [sb_nle hv hc]
  exact ⟨f, fun z => g (by omega)⟩
theorem sb_ndiv {w : Nat} (hw : w < 2 ^ 31) : (-nI w) / 100 = -nI (w / 100) := by
  apply Int32.toInt_inj.mp
  have h100 : (100 : Int32).toInt = 100 := by decide
  rw [Int32.toInt_div, sb_negT hw, h100, sb_negT (by omega), Int.neg_tdiv, Int.tdiv_eq_ediv_of_nonneg (by omega), Int.bmod_eq_of_le (by omega) (by omega)]
  omega
theorem sb_nrem {w : Nat} (hw : w < 2 ^ 31) : (-nI (w / 100)) * 100 - (-nI w) = nI (w % 100) := by
  have h := pk_rem (a := w) (d := 100) hw (by decide) (by decide)
  rw [pk_div hw (by decide) (by decide)] at h
  rw [← h]
  show (-nI (w / 100)) * nI 100 - (-nI w) = nI w - nI (w / 100) * nI 100
  rw [Int32.neg_mul, Int32.sub_neg, Int32.add_comm, ← Int32.sub_eq_add_neg]
/-! rows on bits, shifts and unsigned numbers, to paste: each family out of a closed proof of our own, whole with what it rests on; each by itself clean at Lean in its own claim (generation 39, form 5). Take a family whole -/
/-! ===== Int32 by its bits: bt x i ===== -/
def bt (x : Int32) (i : Nat) : Bool := x.toBitVec.getLsbD i
theorem b_ext {x y : Int32} (h : ∀ i, i < 32 → bt x i = bt y i) : x = y := Int32.toBitVec_inj.mp (BitVec.eq_of_getLsbD_eq (fun i hi => h i hi))
theorem b_or (x y : Int32) (i : Nat) : bt (x ||| y) i = (bt x i || bt y i) := by unfold bt; rw [Int32.toBitVec_or, BitVec.getLsbD_or]
theorem b_and (x y : Int32) (i : Nat) : bt (x &&& y) i = (bt x i && bt y i) := by unfold bt; rw [Int32.toBitVec_and, BitVec.getLsbD_and]
theorem b_xor (x y : Int32) (i : Nat) : bt (x ^^^ y) i = (bt x i ^^ bt y i) := by unfold bt; rw [Int32.toBitVec_xor, BitVec.getLsbD_xor]
theorem b_big {x : Int32} {i : Nat} (h : 32 ≤ i) : bt x i = false := BitVec.getLsbD_of_ge _ _ h
theorem b_255 (i : Nat) : bt 255 i = decide (i < 8) := by
  rcases Nat.lt_or_ge i 32 with h | h
  · exact (by decide +kernel : ∀ i, i < 32 → bt 255 i = decide (i < 8)) i h
  · rw [b_big h, decide_eq_false (by omega)]
theorem b_65535 (i : Nat) : bt 65535 i = decide (i < 16) := by
  rcases Nat.lt_or_ge i 32 with h | h
  · exact (by decide +kernel : ∀ i, i < 32 → bt 65535 i = decide (i < 16)) i h
  · rw [b_big h, decide_eq_false (by omega)]
theorem b_m1 : ∀ i, i < 32 → bt (-1) i = true := by decide +kernel
theorem b_0 (i : Nat) : bt 0 i = false := BitVec.getLsbD_zero
theorem s_l : ∀ n, n < 32 → ((nI n &&& 31).toBitVec.smod 32).toNat = n := by decide +kernel
theorem s_u : ∀ n, n < 32 → (((nI n).toUInt32 &&& Int32.toUInt32 31).toBitVec % 32).toNat = n := by decide +kernel
theorem b_shl (n : Nat) (hn : n < 32) (x : Int32) {i : Nat} (hi : i < 32) : bt (x <<< (nI n &&& 31)) i = (decide (n ≤ i) && bt x (i - n)) := by
  unfold bt
  rw [Int32.toBitVec_shiftLeft]
  show (x.toBitVec <<< ((nI n &&& 31).toBitVec.smod 32).toNat).getLsbD i = _
  rw [s_l n hn, BitVec.getLsbD_shiftLeft]
  rcases Nat.lt_or_ge i n with h | h
  · simp [h, Nat.not_le.mpr h]
  · simp [hi, h, Nat.not_lt.mpr h]
theorem b_ushr (n : Nat) (hn : n < 32) (x : Int32) (i : Nat) : bt ((x.toUInt32 >>> ((nI n).toUInt32 &&& Int32.toUInt32 31)).toInt32) i = bt x (n + i) := by
  show (x.toUInt32 >>> ((nI n).toUInt32 &&& Int32.toUInt32 31)).toBitVec.getLsbD i = x.toUInt32.toBitVec.getLsbD (n + i)
  rw [UInt32.toBitVec_shiftRight]
  show (x.toUInt32.toBitVec >>> (((nI n).toUInt32 &&& Int32.toUInt32 31).toBitVec % 32).toNat).getLsbD i = _
  rw [s_u n hn, BitVec.getLsbD_ushiftRight]
theorem b_sshr (n : Nat) (hn : n < 32) (x : Int32) {i : Nat} (hi : i < 32) : bt (x >>> (nI n &&& 31)) i = if n + i < 32 then bt x (n + i) else bt x 31 := by
  unfold bt
  rw [Int32.toBitVec_shiftRight]
  show (x.toBitVec.sshiftRight ((nI n &&& 31).toBitVec.smod 32).toNat).getLsbD i = _
  rw [s_l n hn, BitVec.getLsbD_sshiftRight, BitVec.msb_eq_getLsbD_last]
  simp [hi]
theorem b_shl8 (x : Int32) {i : Nat} (hi : i < 32) : bt (x <<< ((8 : Int32) &&& 31)) i = (decide (8 ≤ i) && bt x (i - 8)) := b_shl 8 (by omega) x hi
theorem b_shl16 (x : Int32) {i : Nat} (hi : i < 32) : bt (x <<< ((16 : Int32) &&& 31)) i = (decide (16 ≤ i) && bt x (i - 16)) := b_shl 16 (by omega) x hi
theorem b_shl24 (x : Int32) {i : Nat} (hi : i < 32) : bt (x <<< ((24 : Int32) &&& 31)) i = (decide (24 ≤ i) && bt x (i - 24)) := b_shl 24 (by omega) x hi
theorem b_sshr8 (x : Int32) {i : Nat} (hi : i < 32) : bt (x >>> ((8 : Int32) &&& 31)) i = if 8 + i < 32 then bt x (8 + i) else bt x 31 := b_sshr 8 (by omega) x hi
/-! ===== nI under and, xor, >>>, one bit, 65535 ===== -/
theorem nx_and (a b : Nat) : nI a &&& nI b = nI (a &&& b) := by
  apply Int32.toBitVec_inj.1
  show BitVec.ofNat 32 a &&& BitVec.ofNat 32 b = BitVec.ofNat 32 (a &&& b)
  apply BitVec.eq_of_getLsbD_eq
  intro i hi
  simp [hi]
theorem nx_xor (a b : Nat) : nI a ^^^ nI b = nI (a ^^^ b) := by
  apply Int32.toBitVec_inj.1
  show BitVec.ofNat 32 a ^^^ BitVec.ofNat 32 b = BitVec.ofNat 32 (a ^^^ b)
  apply BitVec.eq_of_getLsbD_eq
  intro i hi
  simp [hi]
theorem nx_cnt : ∀ j : Fin 32, (UInt32.ofNat j.val &&& Int32.toUInt32 31).toNat % 32 = j.val := by decide +kernel
theorem nx_ush {k j : Nat} (hk : k < 65536) (hj : j < 32) : ((nI k).toUInt32 >>> ((nI j).toUInt32 &&& Int32.toUInt32 31)).toInt32 = nI (k >>> j) := by
  have hs : k >>> j ≤ k := by
    rw [Nat.shiftRight_eq_div_pow]
    exact Nat.div_le_self _ _
  have e2 : UInt32.ofNat k >>> (UInt32.ofNat j &&& Int32.toUInt32 31) = UInt32.ofNat (k >>> j) := by
    apply UInt32.toNat_inj.1
    have h1 : (UInt32.ofNat k).toNat = k := Nat.mod_eq_of_lt (by omega)
    have h2 : (UInt32.ofNat (k >>> j)).toNat = k >>> j := Nat.mod_eq_of_lt (by omega)
    rw [UInt32.toNat_shiftRight, nx_cnt ⟨j, hj⟩, h1, h2]
  show (UInt32.ofNat k >>> (UInt32.ofNat j &&& Int32.toUInt32 31)).toInt32 = _
  rw [e2]
  rfl
theorem nx_bit {k j : Nat} (hk : k < 65536) (hj : j < 16) : (((nI k).toUInt32 >>> ((nI j).toUInt32 &&& Int32.toUInt32 31)).toInt32 &&& 1) = 0 ↔ k.testBit j = false := by
  rw [nx_ush hk (by omega)]
  show nI (k >>> j) &&& nI 1 = 0 ↔ _
  rw [nx_and, Nat.and_one_is_mod, ← nI_0, nI_eq (by omega) (by omega), Nat.testBit_eq_decide_div_mod_eq, Nat.shiftRight_eq_div_pow, decide_eq_false_iff_not]
  generalize k / 2 ^ j = z
  omega
theorem nx_mod (k : Nat) : nI k &&& 65535 = nI (k % 65536) := by
  show nI k &&& nI 65535 = _
  rw [nx_and, show (65535 : Nat) = 2 ^ 16 - 1 from rfl, Nat.and_two_pow_sub_one_eq_mod]
theorem nx_m16 {k : Nat} (h : k < 65536) : nI k &&& 65535 = nI k := by rw [nx_mod, Nat.mod_eq_of_lt h]
theorem nx_mask (x : Int32) : ∃ k, k < 65536 ∧ x &&& 65535 = nI k := by
  have e : x = nI x.toBitVec.toNat := by
    apply Int32.toBitVec_inj.1
    show x.toBitVec = BitVec.ofNat 32 x.toBitVec.toNat
    simp
  refine ⟨x.toBitVec.toNat % 65536, Nat.mod_lt _ (by omega), ?_⟩
  rw [← nx_mod, ← e]
/-! ===== Int32 as a set of bits: test, set ===== -/
def nf_M (m : Int32) : Nat := 4294967296 - m.toBitVec.toNat
theorem nf_sh : ∀ l, l < 32 → ((1 : Int32) <<< (nI l &&& 31)).toBitVec = BitVec.twoPow 32 l := by decide +kernel
theorem nf_sl : ∀ l, l < 32 → (((nI l).toUInt32 &&& Int32.toUInt32 31).toBitVec % 32).toNat = l := by decide +kernel
theorem nf_tp : ∀ l, l < 32 → BitVec.twoPow 32 l ≠ 0#32 := by decide +kernel
theorem nf_bit (m : Int32) (l : Nat) (hl : l < 32) : ((m.toUInt32 >>> ((nI l).toUInt32 &&& Int32.toUInt32 31)).toInt32 &&& 1) = 0 ↔ (m &&& ((1 : Int32) <<< (nI l &&& 31))) = 0 := by
  have e : ((m.toUInt32 >>> ((nI l).toUInt32 &&& Int32.toUInt32 31)).toInt32).toBitVec = m.toBitVec >>> l := by
    show m.toBitVec >>> (((nI l).toUInt32 &&& Int32.toUInt32 31).toBitVec % 32) = m.toBitVec >>> l
    rw [BitVec.ushiftRight_eq', nf_sl l hl]
  rw [← Int32.toBitVec_inj, ← Int32.toBitVec_inj, Int32.toBitVec_and, Int32.toBitVec_and, nf_sh l hl, e, BitVec.and_twoPow]
  show (m.toBitVec >>> l &&& 1#32) = 0#32 ↔ _ = 0#32
  rw [BitVec.and_one_eq_setWidth_ofBool_getLsbD, BitVec.getLsbD_ushiftRight, Nat.add_zero]
  cases hb : m.toBitVec.getLsbD l
  · exact ⟨fun _ => by simp, fun _ => by decide⟩
  · exact ⟨fun z => absurd z (by decide), fun z => absurd ((if_pos rfl).symm.trans z) (nf_tp l hl)⟩
theorem nf_gr (m k : Int32) (h : m &&& k = 0) (hk : k ≠ 0) : nf_M (m ||| k) < nf_M m := by
  have hm := m.toBitVec.isLt
  have hm' := (m ||| k).toBitVec.isLt
  have h1 : m.toBitVec.toNat ≤ (m ||| k).toBitVec.toNat := by
    rw [Int32.toBitVec_or, BitVec.toNat_or]
    exact Nat.left_le_or
  have h2 : m.toBitVec.toNat ≠ (m ||| k).toBitVec.toNat := by
    intro e
    have e2 : m = m ||| k := Int32.toBitVec_inj.mp (BitVec.eq_of_toNat_eq e)
    apply hk
    apply Int32.toBitVec_inj.mp
    show k.toBitVec = 0#32
    apply BitVec.eq_of_getLsbD_eq
    intro i hi
    have a : m.toBitVec.getLsbD i = (m.toBitVec.getLsbD i || k.toBitVec.getLsbD i) := by rw [← BitVec.getLsbD_or, ← Int32.toBitVec_or, ← e2]
    have b : (m.toBitVec.getLsbD i && k.toBitVec.getLsbD i) = false := by
      rw [← BitVec.getLsbD_and, ← Int32.toBitVec_and, h]
      exact BitVec.getLsbD_zero
    rw [BitVec.getLsbD_zero]
    revert a b
    cases m.toBitVec.getLsbD i <;> cases k.toBitVec.getLsbD i <;> simp
  unfold nf_M
  omega
/-! ===== a byte read unsigned ===== -/
theorem bp_b (x : Int32) : x.toInt8.toInt32 &&& 255 = x &&& 255 := by
  apply Int32.toBitVec_inj.mp
  rw [Int32.toBitVec_and, Int32.toBitVec_and, Int8.toBitVec_toInt32, Int32.toBitVec_toInt8]
  apply BitVec.eq_of_getLsbD_eq
  intro i hi
  rw [BitVec.getLsbD_and, BitVec.getLsbD_and]
  have hm : ∀ i < 32, 8 ≤ i → (255 : Int32).toBitVec.getLsbD i = false := by decide
  rcases Nat.lt_or_ge i 8 with z | z
  · rw [BitVec.getLsbD_signExtend, BitVec.getLsbD_signExtend, if_pos z, if_pos hi]
    simp only [z, hi, decide_true, Bool.true_and]
  · rw [hm i hi z]; simp
/-! ===== the char cast and 65535 ===== -/
theorem em_w (v : Int32) : ∃ w : Nat, w < 65536 ∧ (v.toUInt32 % 65536).toInt32 = nI w ∧ v &&& 65535 = nI w := by
  have hr := lw_u16_r v
  have h0 : (0 : Int32).toInt = 0 := by decide
  obtain ⟨w, h1, h2⟩ := nI_of (x := lw_u16 v) (by rw [Int32.lt_iff_toInt_lt]; omega)
  have h3 : (v.toUInt32 % 65536).toInt32 = nI w := h2
  rw [h2, nI_toInt h1] at hr
  exact ⟨w, by omega, h3, by rw [← lg_i2c_mask, ← lg_i2c_nf, h3]⟩
/-! ===== Int64 as a set of bits: test, set, clear ===== -/
theorem ts_nf {x : Bool} (h : ¬ x = false) : x = true := by cases x <;> first | rfl | exact absurd rfl h
theorem ts_nt {x : Bool} (h : ¬ x = true) : x = false := by cases x <;> first | rfl | exact absurd rfl h
theorem ts_bit {w : Int64} {s : UInt64} {j : Nat} (hj : j < 64) (hs : s.toNat = j) : ((w.toUInt64 >>> s).toInt64 &&& 1) = 0 ↔ w.toBitVec.getLsbD j = false := by
  have e : (w.toUInt64 >>> s).toInt64.toBitVec = w.toBitVec >>> j := by
    apply BitVec.eq_of_toNat_eq
    show (w.toUInt64 >>> s).toNat = _
    rw [UInt64.toNat_shiftRight, hs, Nat.mod_eq_of_lt hj, BitVec.toNat_ushiftRight]
    rfl
  rw [← Int64.toBitVec_inj, Int64.toBitVec_and, e]
  show w.toBitVec >>> j &&& 1#64 = 0#64 ↔ _
  constructor
  · intro h
    have t := congrArg (fun x => x.getLsbD 0) h
    simpa using t
  · intro h
    apply BitVec.eq_of_getLsbD_eq
    intro i hi
    cases i with
    | zero => simp [h]
    | succ i => simp
theorem ts_or {w m : Int64} {j : Nat} (hj : j < 64) (hm : m.toBitVec = BitVec.twoPow 64 j) : (w ||| m) = w ↔ w.toBitVec.getLsbD j = true := by
  rw [← Int64.toBitVec_inj, Int64.toBitVec_or, hm]
  constructor
  · intro h
    have t := congrArg (fun x => x.getLsbD j) h
    simp only [BitVec.getLsbD_or, BitVec.getLsbD_twoPow] at t
    simpa [hj] using t.symm
  · intro h
    apply BitVec.eq_of_getLsbD_eq
    intro i hi
    rw [BitVec.getLsbD_or, BitVec.getLsbD_twoPow]
    by_cases e : j = i
    · subst e; rw [h, Bool.true_or]
    · simp [e]
theorem ts_and {w m : Int64} {j : Nat} (hj : j < 64) (hm : m.toBitVec = BitVec.twoPow 64 j) : (w &&& (m ^^^ (-1))) = w ↔ w.toBitVec.getLsbD j = false := by
  have ha : (-1 : Int64).toBitVec = BitVec.allOnes 64 := by decide
  rw [← Int64.toBitVec_inj, Int64.toBitVec_and, Int64.toBitVec_xor, hm, ha]
  constructor
  · intro h
    have t := congrArg (fun x => x.getLsbD j) h
    simp only [BitVec.getLsbD_and, BitVec.getLsbD_xor, BitVec.getLsbD_twoPow, BitVec.getLsbD_allOnes] at t
    simpa [hj] using t.symm
  · intro h
    apply BitVec.eq_of_getLsbD_eq
    intro i hi
    rw [BitVec.getLsbD_and, BitVec.getLsbD_xor, BitVec.getLsbD_twoPow, BitVec.getLsbD_allOnes]
    by_cases e : j = i
    · subst e; rw [h, Bool.false_and]
    · simp [e, hi]
/-! ===== lN n to 2^64: shifts, and, or, masks, one bit ===== -/
theorem wb_tb (n : Nat) : (lN n).toBitVec = BitVec.ofNat 64 n := rfl
theorem wb_inj {a b : Int64} (h : a.toBitVec = b.toBitVec) : a = b := Int64.toBitVec_inj.mp h
theorem wb_tn {n : Nat} (h : n < 2 ^ 64) : (lN n).toBitVec.toNat = n := by rw [wb_tb, BitVec.toNat_ofNat, Nat.mod_eq_of_lt h]
theorem wb_of (x : Int64) : ∃ n, n < 2 ^ 64 ∧ x = lN n := ⟨x.toBitVec.toNat, x.toBitVec.isLt, wb_inj (by rw [wb_tb]; simp)⟩
theorem wb_of32 (x : Int32) : ∃ n, n < 2 ^ 32 ∧ x = nI n := ⟨x.toBitVec.toNat, x.toBitVec.isLt, Int32.toBitVec_inj.mp (by show _ = BitVec.ofNat 32 _; simp)⟩
theorem wb_c : ∀ k, k < 64 → ((nI k).toInt64 &&& 63) = lN k := by decide +kernel
theorem wb_cu : ∀ k, k < 64 → ((nI k).toInt64.toUInt64 &&& Int64.toUInt64 63) = UInt64.ofNat k := by decide +kernel
theorem wb_sm : ∀ k, k < 64 → (BitVec.ofNat 64 k).smod 64 = BitVec.ofNat 64 k := by decide +kernel
theorem wb_pw {a b : Nat} (h : a ≤ b) : 2 ^ b = 2 ^ a * 2 ^ (b - a) := by rw [← Nat.pow_add]; congr 1; omega
theorem wb_lt2 {a b : Nat} (h : a < b) : 2 ^ a < 2 ^ b := Nat.pow_lt_pow_right (by decide) h
theorem wb_mod (n : Nat) : lN n = lN (n % 2 ^ 64) := wb_inj (by rw [wb_tb, wb_tb]; apply BitVec.eq_of_toNat_eq; rw [BitVec.toNat_ofNat, BitVec.toNat_ofNat, Nat.mod_mod])
theorem wb_shr {n k : Nat} (hn : n < 2 ^ 64) (hk : k < 64) : ((lN n).toUInt64 >>> ((nI k).toInt64.toUInt64 &&& Int64.toUInt64 63)).toInt64 = lN (n / 2 ^ k) := by
  rw [wb_cu k hk]
  apply wb_inj
  apply BitVec.eq_of_toNat_eq
  show ((lN n).toUInt64 >>> UInt64.ofNat k).toNat = (BitVec.ofNat 64 _).toNat
  have h1 : (UInt64.ofNat k).toNat = k := by
    show (BitVec.ofNat 64 k).toNat = k
    rw [BitVec.toNat_ofNat, Nat.mod_eq_of_lt (by omega)]
  have h2 : (lN n).toUInt64.toNat = n := wb_tn hn
  rw [UInt64.toNat_shiftRight, h1, h2, Nat.mod_eq_of_lt hk, Nat.shiftRight_eq_div_pow, BitVec.toNat_ofNat, Nat.mod_eq_of_lt (Nat.lt_of_le_of_lt (Nat.div_le_self _ _) hn)]
theorem wb_shl (n : Nat) {k : Nat} (hk : k < 64) : lN n <<< ((nI k).toInt64 &&& 63) = lN (n * 2 ^ k) := by
  rw [wb_c k hk]
  apply wb_inj
  rw [Int64.toBitVec_shiftLeft, wb_tb, wb_tb, wb_tb, wb_sm k hk]
  apply BitVec.eq_of_toNat_eq
  rw [BitVec.shiftLeft_eq', BitVec.toNat_shiftLeft, BitVec.toNat_ofNat, BitVec.toNat_ofNat, BitVec.toNat_ofNat, Nat.mod_eq_of_lt (show k < 2 ^ 64 by omega), Nat.shiftLeft_eq, Nat.mul_mod, Nat.mod_mod, ← Nat.mul_mod]
theorem wb_and {a b : Nat} (ha : a < 2 ^ 64) (hb : b < 2 ^ 64) : lN a &&& lN b = lN (a &&& b) := by
  apply wb_inj
  rw [Int64.toBitVec_and, wb_tb, wb_tb, wb_tb]
  apply BitVec.eq_of_toNat_eq
  rw [BitVec.toNat_and, BitVec.toNat_ofNat, BitVec.toNat_ofNat, BitVec.toNat_ofNat, Nat.mod_eq_of_lt ha, Nat.mod_eq_of_lt hb, Nat.mod_eq_of_lt (Nat.and_lt_two_pow _ hb)]
theorem wb_or {a b : Nat} (ha : a < 2 ^ 64) (hb : b < 2 ^ 64) : lN a ||| lN b = lN (a ||| b) := by
  apply wb_inj
  rw [Int64.toBitVec_or, wb_tb, wb_tb, wb_tb]
  apply BitVec.eq_of_toNat_eq
  rw [BitVec.toNat_or, BitVec.toNat_ofNat, BitVec.toNat_ofNat, BitVec.toNat_ofNat, Nat.mod_eq_of_lt ha, Nat.mod_eq_of_lt hb, Nat.mod_eq_of_lt (Nat.or_lt_two_pow ha hb)]
theorem wb_mask {n k : Nat} (hn : n < 2 ^ 64) (hk : k < 64) : lN n &&& lN (2 ^ k - 1) = lN (n % 2 ^ k) := by
  rw [wb_and hn (by have := wb_lt2 hk; omega), Nat.and_two_pow_sub_one_eq_mod]
theorem wb_a1 {n : Nat} (hn : n < 2 ^ 64) : lN n &&& 1 = lN (n % 2) := wb_mask (k := 1) hn (by decide)
theorem wb_bit {n k : Nat} (hn : n < 2 ^ 64) (hk : k < 64) : ((lN n).toUInt64 >>> ((nI k).toInt64.toUInt64 &&& Int64.toUInt64 63)).toInt64 &&& 1 = lN (n / 2 ^ k % 2) := by
  rw [wb_shr hn hk, wb_a1 (Nat.lt_of_le_of_lt (Nat.div_le_self _ _) hn)]
theorem wb_xor {q k : Nat} (hk : k < 63) (h : 2 ^ k ≤ q) (h2 : q < 2 ^ (k + 1)) : lN q ^^^ lN (2 ^ k) = lN (q - 2 ^ k) := by
  obtain ⟨r, rfl⟩ : ∃ r, q = 2 ^ k + r := ⟨q - 2 ^ k, by omega⟩
  have hr : r < 2 ^ k := by rw [Nat.pow_succ] at h2; omega
  have hx : (2 ^ k + r) ^^^ 2 ^ k = r := by
    apply Nat.eq_of_testBit_eq
    intro i
    rw [Nat.testBit_xor, Nat.testBit_two_pow]
    rcases Nat.lt_trichotomy i k with h | h | h
    · rw [Nat.testBit_two_pow_add_gt h]
      simp [show ¬ k = i by omega]
    · subst h
      rw [Nat.testBit_two_pow_add_eq]
      simp
    · have a1 : 2 ^ (k + 1) ≤ 2 ^ i := Nat.pow_le_pow_right (by decide) h
      rw [Nat.testBit_lt_two_pow (show 2 ^ k + r < 2 ^ i by omega), Nat.testBit_lt_two_pow (show r < 2 ^ i by omega)]
      simp [show ¬ k = i by omega]
  have b1 := wb_lt2 (show k + 1 < 64 by omega)
  have b2 := wb_lt2 (show k < 64 by omega)
  apply wb_inj
  rw [Int64.toBitVec_xor, wb_tb, wb_tb, wb_tb]
  apply BitVec.eq_of_toNat_eq
  rw [BitVec.toNat_xor, BitVec.toNat_ofNat, BitVec.toNat_ofNat, BitVec.toNat_ofNat, Nat.mod_eq_of_lt (by omega : 2 ^ k + r < 2 ^ 64), Nat.mod_eq_of_lt b2, hx, Nat.add_sub_cancel_left, Nat.mod_eq_of_lt (by omega)]
/-! ===== lN: masks, 'or' of parts that don't overlap is a sum ===== -/
theorem u_tn {n : Nat} (h : n < 2 ^ 64) : (UInt64.ofNat n).toNat = n := Nat.mod_eq_of_lt h
theorem g_and {a b c : Nat} (ha : a < 2 ^ 64) (hb : b < 2 ^ 64) (hc : a &&& b = c) : lN a &&& lN b = lN c := by
  subst hc
  have h : UInt64.ofNat a &&& UInt64.ofNat b = UInt64.ofNat (a &&& b) := UInt64.toNat_inj.mp (by rw [UInt64.toNat_and, u_tn ha, u_tn hb, u_tn (Nat.and_lt_two_pow a hb)])
  have h2 := congrArg UInt64.toInt64 h
  exact h2
theorem g_and1 {a : Nat} (ha : a < 2 ^ 64) : lN a &&& 1 = lN (a % 2) := g_and (b := 1) ha (by decide) (Nat.and_two_pow_sub_one_eq_mod a 1)
theorem g_mask {a s p : Nat} (hp : 2 ^ s = p) (hs : s < 64) (ha : a < 2 ^ 64) : lN a &&& lN (p - 1) = lN (a % p) := by
  subst hp
  have := Nat.pow_lt_pow_right (show 1 < 2 by decide) hs
  exact g_and ha (by omega) (Nat.and_two_pow_sub_one_eq_mod a s)
theorem g_or {k p a b : Nat} (hp : 2 ^ k = p) (ha : a < p) (h : b * p + a < 2 ^ 64) : lN (b * p) ||| lN a = lN (b * p + a) := by
  subst hp
  have h1 : b * 2 ^ k ||| a = b * 2 ^ k + a := by rw [← Nat.shiftLeft_eq, Nat.shiftLeft_add_eq_or_of_lt ha]
  have h3 : UInt64.ofNat (b * 2 ^ k) ||| UInt64.ofNat a = UInt64.ofNat (b * 2 ^ k + a) := UInt64.toNat_inj.mp (by rw [UInt64.toNat_or, u_tn (by omega), u_tn (by omega), u_tn h, h1])
  have h2 := congrArg UInt64.toInt64 h3
  exact h2
theorem g_or' {k p a b : Nat} (hp : 2 ^ k = p) (ha : a < p) (h : a + b * p < 2 ^ 64) : lN a ||| lN (b * p) = lN (a + b * p) := by
  rw [Int64.or_comm, g_or hp ha (by omega), Nat.add_comm]
theorem g_ushr {a k p : Nat} {y : UInt64} (hy : y = UInt64.ofNat k) (hk : k < 64) (hp : 2 ^ k = p) (ha : a < 2 ^ 64) : ((lN a).toUInt64 >>> y).toInt64 = lN (a / p) := by
  subst hy hp
  have h : UInt64.ofNat a >>> UInt64.ofNat k = UInt64.ofNat (a / 2 ^ k) := UInt64.toNat_inj.mp (by rw [UInt64.toNat_shiftRight, u_tn ha, u_tn (by omega), u_tn (Nat.lt_of_le_of_lt (Nat.div_le_self _ _) ha), Nat.mod_eq_of_lt hk, Nat.shiftRight_eq_div_pow])
  have h2 := congrArg UInt64.toInt64 h
  exact h2
theorem g_shl {a k p : Nat} {y : Int64} (hy : y.toBitVec.smod 64 = BitVec.ofNat 64 k) (hk : k < 64) (hp : 2 ^ k = p) (ha : a < 2 ^ 64) : lN a <<< y = lN (a * p) := by
  subst hp
  apply Int64.toBitVec_inj.mp
  rw [Int64.toBitVec_shiftLeft, hy]
  apply BitVec.eq_of_toNat_eq
  have hb : (lN a).toBitVec.toNat = a := Nat.mod_eq_of_lt ha
  have hk' : (BitVec.ofNat 64 k).toNat = k := Nat.mod_eq_of_lt (by omega)
  have h : ((lN a).toBitVec <<< BitVec.ofNat 64 k).toNat = (a * 2 ^ k) % 2 ^ 64 := by simp only [BitVec.shiftLeft_eq', BitVec.toNat_shiftLeft, hb, hk', Nat.shiftLeft_eq]
  exact h
/-! ===== lN to 2^62 under >> and >>> ===== -/
theorem pf_lI {a : Nat} (h : a < 2 ^ 63) : (lN a).toInt = (a : Int) := lg_ofNat_toInt h
theorem pf_shr {a d : Nat} {D : Int64} (hD : (D.toBitVec.smod 64).toNat = d) (h : a < 2 ^ 62) : lN a >>> D = lN (a / 2 ^ d) := by
  have hd : a / 2 ^ d ≤ a := Nat.div_le_self _ _
  apply Int64.toInt_inj.mp
  have e : (lN a >>> D).toInt = (lN a).toInt >>> d := by
    rw [← hD]
    exact BitVec.toInt_sshiftRight ..
  rw [e, Int.shiftRight_eq_div_pow, pf_lI (by omega), pf_lI (by omega)]
  rfl
theorem pf_ushr {a d : Nat} {D : UInt64} (hD : D.toNat % 64 = d) (h : a < 2 ^ 62) : ((lN a).toUInt64 >>> D).toInt64 = lN (a / 2 ^ d) := by
  have hd : a / 2 ^ d ≤ a := Nat.div_le_self _ _
  have e : (lN a).toUInt64 >>> D = UInt64.ofNat (a / 2 ^ d) := UInt64.toNat_inj.mp (by
    rw [UInt64.toNat_shiftRight, hD, Nat.shiftRight_eq_div_pow, UInt64.toNat_ofNat']
    show (UInt64.ofNat a).toNat / 2 ^ d = _
    rw [UInt64.toNat_ofNat', Nat.mod_eq_of_lt (by omega), Nat.mod_eq_of_lt (by omega)])
  rw [e]
  rfl
theorem pf_andw (x : Int64) : ∃ m, m < 2 ^ 32 ∧ x &&& 4294967295 = lN m := ⟨x.toBitVec.toNat % 2 ^ 32, Nat.mod_lt _ (by decide), Int64.toBitVec_inj.mp (BitVec.eq_of_toNat_eq (by
  show (x.toBitVec &&& 4294967295#64).toNat = (BitVec.ofNat 64 (x.toBitVec.toNat % 2 ^ 32)).toNat
  rw [BitVec.toNat_and, show (4294967295#64).toNat = 2 ^ 32 - 1 from by decide, Nat.and_two_pow_sub_one_eq_mod, BitVec.toNat_ofNat]
  omega))⟩
/-! ===== Int64 as an unsigned number: uN x ===== -/
def uN (x : Int64) : Nat := x.toUInt64.toNat
theorem uN_lt (x : Int64) : uN x < 18446744073709551616 := x.toUInt64.toNat_lt
theorem uN_inj {x y : Int64} (h : uN x = uN y) : x = y := congrArg UInt64.toInt64 (UInt64.toNat_inj.mp h)
theorem uN_add (x y : Int64) : uN (x + y) = (uN x + uN y) % 18446744073709551616 := by
  show (x.toUInt64 + y.toUInt64).toNat = _
  exact UInt64.toNat_add _ _
theorem uN_mul (x y : Int64) : uN (x * y) = (uN x * uN y) % 18446744073709551616 := by
  show (x.toUInt64 * y.toUInt64).toNat = _
  exact UInt64.toNat_mul _ _
theorem uN_shl (x : Int64) : uN (x <<< ((1 : Int32).toInt64 &&& 63)) = (2 * uN x) % 18446744073709551616 := by
  have h : (((1 : Int32).toInt64 &&& 63).toBitVec.smod 64).toNat = 1 := by decide
  show (x.toBitVec <<< (((1 : Int32).toInt64 &&& 63).toBitVec.smod 64).toNat).toNat = _
  rw [h, BitVec.toNat_shiftLeft, Nat.shiftLeft_eq, Nat.mul_comm]
  rfl
theorem uN_shr (x : Int64) (s : UInt64) : uN (x.toUInt64 >>> s).toInt64 = uN x / 2 ^ (s.toNat % 64) := by
  show (x.toUInt64 >>> s).toNat = _
  rw [UInt64.toNat_shiftRight, Nat.shiftRight_eq_div_pow]
  rfl
theorem uN_s32 (x : Int64) : uN (x.toUInt64 >>> ((32 : Int32).toInt64.toUInt64 &&& Int64.toUInt64 63)).toInt64 = uN x / 4294967296 := by
  have h : ((32 : Int32).toInt64.toUInt64 &&& Int64.toUInt64 63).toNat % 64 = 32 := by decide
  rw [uN_shr, h]
theorem uN_s63 (x : Int64) : uN (x.toUInt64 >>> ((63 : Int32).toInt64.toUInt64 &&& Int64.toUInt64 63)).toInt64 = uN x / 9223372036854775808 := by
  have h : ((63 : Int32).toInt64.toUInt64 &&& Int64.toUInt64 63).toNat % 64 = 63 := by decide
  rw [uN_shr, h]
theorem uN_lo (x : Int64) : uN (x &&& 4294967295) = uN x % 4294967296 := by
  show (x.toUInt64 &&& Int64.toUInt64 4294967295).toNat = _
  rw [UInt64.toNat_and]
  exact Nat.and_two_pow_sub_one_eq_mod _ 32
theorem uN_bit (x : Int64) : (x &&& 1) = 0 ↔ uN x % 2 = 0 := by
  have h : uN (x &&& 1) = uN x % 2 := by
    show (x.toUInt64 &&& Int64.toUInt64 1).toNat = _
    rw [UInt64.toNat_and]
    exact Nat.and_two_pow_sub_one_eq_mod _ 1
  rw [← h]
  exact ⟨fun z => by rw [z]; rfl, fun z => uN_inj (z.trans rfl)⟩
theorem uN_or {x y : Int64} (hy : uN y < 2) : uN ((x <<< ((1 : Int32).toInt64 &&& 63)) ||| y) = (2 * uN x) % 18446744073709551616 + uN y := by
  have h1 : uN ((x <<< ((1 : Int32).toInt64 &&& 63)) ||| y) = uN (x <<< ((1 : Int32).toInt64 &&& 63)) ||| uN y := UInt64.toNat_or _ _
  have h2 : (2 * uN x) % 18446744073709551616 = 2 ^ 1 * (uN x % 9223372036854775808) := by omega
  rw [h1, uN_shl, h2]
  exact (Nat.two_pow_add_eq_or_of_lt (i := 1) hy _).symm
theorem nat_xor {a : Nat} (h : a < 18446744073709551616) : a ^^^ 2 ^ 63 = (a + 9223372036854775808) % 18446744073709551616 := by
  have h1 : (a ^^^ 2 ^ 63) % 2 ^ 63 = a % 2 ^ 63 := by rw [Nat.xor_mod_two_pow, Nat.mod_self, Nat.xor_zero]
  have h2 : (a ^^^ 2 ^ 63) / 2 ^ 63 = (a / 2 ^ 63) ^^^ 1 := by rw [Nat.xor_div_two_pow, Nat.div_self (Nat.two_pow_pos 63)]
  have h3 : a / 2 ^ 63 = 0 ∨ a / 2 ^ 63 = 1 := by omega
  generalize a ^^^ 2 ^ 63 = t at h1 h2
  rcases h3 with h3 | h3
  · rw [h3] at h2
    have h2 : t / 2 ^ 63 = 1 := h2
    omega
  · rw [h3] at h2
    have h2 : t / 2 ^ 63 = 0 := h2
    omega
theorem uN_xor (x : Int64) : uN (x ^^^ (-9223372036854775808)) = (uN x + 9223372036854775808) % 18446744073709551616 := by
  rw [← nat_xor (uN_lt x)]
  exact UInt64.toNat_xor _ _
theorem uN_int (x : Int64) : x.toInt = if 2 * uN x < 18446744073709551616 then (uN x : Int) else (uN x : Int) - 18446744073709551616 := BitVec.toInt_eq_toNat_cond _
theorem uN_le (x y : Int64) : (x ^^^ (-9223372036854775808)) ≤ (y ^^^ (-9223372036854775808)) ↔ uN x ≤ uN y := by
  have hx := uN_lt x
  have hy := uN_lt y
  rw [Int64.le_iff_toInt_le, uN_int, uN_int, uN_xor, uN_xor]
  omega
theorem uN_sk (x : Int64) {k : Nat} (hk : k < 64) : uN (x.toUInt64 >>> ((nI k).toInt64.toUInt64 &&& Int64.toUInt64 63)).toInt64 = uN x / 2 ^ k := by
  have h : ((nI k).toInt64.toUInt64 &&& Int64.toUInt64 63).toNat % 64 = k := by
    rw [nI_l (by omega), UInt64.toNat_and]
    have e : (lN k).toUInt64.toNat = k % 2 ^ 64 := rfl
    have e2 : (Int64.toUInt64 63).toNat = 2 ^ 6 - 1 := by decide
    rw [e, e2, Nat.and_two_pow_sub_one_eq_mod]
    omega
  rw [uN_shr, h]
/-! ===== unsigned comparison by xor with the least ===== -/
theorem lN_bv (n : Nat) : (lN n).toBitVec = BitVec.ofNat 64 n := rfl
theorem lN_nat {n : Nat} (h : n < 2 ^ 64) : (lN n).toBitVec.toNat = n := by rw [lN_bv, BitVec.toNat_ofNat]; exact Nat.mod_eq_of_lt h
theorem lN_xor (a b : Nat) : lN a ^^^ lN b = lN (a ^^^ b) := by
  apply Int64.toBitVec_inj.mp; rw [Int64.toBitVec_xor, lN_bv, lN_bv, lN_bv]; apply BitVec.eq_of_getLsbD_eq; intro i hi; simp [BitVec.getLsbD_ofNat, Nat.testBit_xor, hi]
theorem lN_ti {m : Nat} (h : m < 2 ^ 64) : (lN m).toInt = if m < 2 ^ 63 then (m : Int) else (m : Int) - 2 ^ 64 := by
  have c := BitVec.toInt_eq_toNat_cond (lN m).toBitVec
  rw [lN_nat h] at c
  show (lN m).toBitVec.toInt = _
  rw [c]
  split <;> split <;> omega
theorem xor63 {x : Nat} (h : x < 2 ^ 63) : x ^^^ 2 ^ 63 = 2 ^ 63 + x := by
  apply Nat.eq_of_testBit_eq
  intro i
  rw [Nat.testBit_xor, Nat.testBit_two_pow]
  rcases Nat.lt_trichotomy i 63 with z | z | z
  · rw [Nat.testBit_two_pow_add_gt z, decide_eq_false (by omega)]; simp
  · subst z; rw [Nat.testBit_two_pow_add_eq]; simp
  · have hp : 2 ^ 64 ≤ 2 ^ i := Nat.pow_le_pow_right (by decide) z
    rw [Nat.testBit_lt_two_pow (show x < 2 ^ i by omega), Nat.testBit_lt_two_pow (show 2 ^ 63 + x < 2 ^ i by omega), decide_eq_false (by omega)]; rfl
theorem xorS {a : Nat} (h : a < 2 ^ 64) : (lN a ^^^ (-9223372036854775808)).toInt = (a : Int) - 2 ^ 63 := by
  rw [show (-9223372036854775808 : Int64) = lN (2 ^ 63) from by decide +kernel, lN_xor]
  rcases Nat.lt_or_ge a (2 ^ 63) with z | z
  · rw [xor63 z, lN_ti (by omega), if_neg (by omega)]; omega
  · obtain ⟨x, rfl⟩ : ∃ x, a = 2 ^ 63 + x := ⟨a - 2 ^ 63, by omega⟩
    rw [← xor63 (by omega), Nat.xor_assoc, Nat.xor_self, Nat.xor_zero, lN_ti (by omega), if_pos (by omega), xor63 (by omega)]; omega
theorem ultL {a b : Nat} (ha : a < 2 ^ 64) (hb : b < 2 ^ 64) : ((lN b ^^^ (-9223372036854775808)) ≤ (lN a ^^^ (-9223372036854775808))) ↔ b ≤ a := by
  rw [Int64.le_iff_toInt_le, xorS ha, xorS hb]; omega
/-! ===== Int64 masks of n low bits ===== -/
theorem cr_bits (W U M : BitVec 64) : ((W &&& U) &&& (U &&& (M ^^^ BitVec.allOnes 64))) = 0#64 ↔ (W &&& U) &&& M = W &&& U := by
  constructor
  · intro h
    apply BitVec.eq_of_getLsbD_eq
    intro i hi
    have e := congrArg (fun x => BitVec.getLsbD x i) h
    simp only [BitVec.getLsbD_and, BitVec.getLsbD_xor, BitVec.getLsbD_allOnes, BitVec.getLsbD_zero, hi, decide_true] at e ⊢
    revert e
    cases W.getLsbD i <;> cases U.getLsbD i <;> cases M.getLsbD i <;> decide
  · intro h
    apply BitVec.eq_of_getLsbD_eq
    intro i hi
    have e := congrArg (fun x => BitVec.getLsbD x i) h
    simp only [BitVec.getLsbD_and, BitVec.getLsbD_xor, BitVec.getLsbD_allOnes, BitVec.getLsbD_zero, hi, decide_true] at e ⊢
    revert e
    cases W.getLsbD i <;> cases U.getLsbD i <;> cases M.getLsbD i <;> decide
theorem cr_mask (w U m : Int64) (n : Nat) (hm : m.toBitVec.toNat = 2 ^ n - 1) : ((w &&& U) &&& (U &&& (m ^^^ (-1)))) = 0 ↔ (w &&& U).toBitVec.toNat < 2 ^ n := by
  have e0 : (-1 : Int64).toBitVec = BitVec.allOnes 64 := by decide
  have z0 : (0 : Int64).toBitVec = 0#64 := by decide
  rw [← Int64.toBitVec_inj, z0, Int64.toBitVec_and, Int64.toBitVec_and, Int64.toBitVec_and, Int64.toBitVec_xor, e0, cr_bits]
  generalize w.toBitVec &&& U.toBitVec = T
  rw [← BitVec.toNat_inj, BitVec.toNat_and, hm, Nat.and_two_pow_sub_one_eq_mod]
  constructor
  · intro h
    have t := Nat.mod_lt T.toNat (Nat.two_pow_pos n)
    rw [h] at t
    exact t
  · exact Nat.mod_eq_of_lt
theorem cr_shr (t : Int64) (x : UInt64) (n : Nat) (hx : x.toNat % 64 = n) : (t.toUInt64 >>> x).toInt64 = 0 ↔ t.toBitVec.toNat < 2 ^ n := by
  rw [← Int64.toBitVec_inj, ← BitVec.toNat_inj]
  show (t.toUInt64 >>> x).toNat = 0 ↔ t.toUInt64.toNat < 2 ^ n
  rw [UInt64.toNat_shiftRight, hx, Nat.shiftRight_eq_div_pow]
  constructor
  · intro h
    have d : t.toUInt64.toNat / 2 ^ n < 1 := by
      rw [h]
      decide
    have e := (Nat.div_lt_iff_lt_mul (Nat.two_pow_pos n)).mp d
    rw [Nat.one_mul] at e
    exact e
  · exact Nat.div_eq_of_lt
theorem cr_amt (s : Int64) : ∃ n, n < 64 ∧ s &&& 63 = lN n ∧ (s.toUInt64 &&& Int64.toUInt64 63).toNat % 64 = n := by
  have e : (s.toUInt64 &&& Int64.toUInt64 63).toNat = s.toUInt64.toNat % 2 ^ 6 := by
    rw [UInt64.toNat_and, show (Int64.toUInt64 63).toNat = 2 ^ 6 - 1 from by decide, Nat.and_two_pow_sub_one_eq_mod]
  refine ⟨s.toUInt64.toNat % 2 ^ 6, by omega, ?_, by omega⟩
  rw [← Int64.toBitVec_inj, ← BitVec.toNat_inj]
  show (s.toUInt64 &&& Int64.toUInt64 63).toNat = (BitVec.ofNat 64 (s.toUInt64.toNat % 2 ^ 6)).toNat
  rw [e, BitVec.toNat_ofNat]
  omega
end
section
/-! the code, a reader's states and steps, pair walks, and the two bounds -/
def da_ok (N : Nat) (L : Nat → Nat) (B : Nat → Nat → Nat) : Prop :=
  N ≤ 8 ∧ (∀ k, k < N → 1 ≤ L k ∧ L k ≤ 8) ∧ (∀ k j, B k j < 2) ∧
  (∀ a b, a < N → b < N → L a = L b → (∀ j, j < L a → B a j = B b j) → a = b)
def da_adv (L : Nat → Nat) (k j : Nat) : Nat := if j + 1 = L k then 0 else k * 8 + j + 1
def da_tr (N : Nat) (L : Nat → Nat) (B : Nat → Nat → Nat) (s k c s' : Nat) : Prop :=
  k < N ∧ (s = 0 ∨ k = s / 8) ∧ s % 8 < L k ∧ B k (s % 8) = c ∧ s' = da_adv L k (s % 8)
def da_st (N : Nat) (L : Nat → Nat) (s : Nat) : Prop := s = 0 ∨ (s % 8 ≠ 0 ∧ s / 8 < N ∧ s % 8 < L (s / 8))
def da_t1 (N : Nat) (L : Nat → Nat) (B : Nat → Nat → Nat) (s c s' : Nat) : Prop := ∃ k, da_tr N L B s k c s'
def da_w (T : Nat → Nat → Nat → Prop) : List Nat → Nat → Nat → Prop
  | [], s, s' => s = s'
  | c :: bs, s, s' => ∃ s1, T s c s1 ∧ da_w T bs s1 s'
def da_wk (T : Nat → Nat → Nat → Prop) (Z : Nat → Nat → Prop) : Nat → Nat → Nat → Prop
  | 0, u, v => Z u v
  | m + 1, u, v => ∃ c u' v', T u c u' ∧ T v c v' ∧ da_wk T Z m u' v'
theorem da_w_app {T : Nat → Nat → Nat → Prop} : ∀ (a b : List Nat) (s s' : Nat), da_w T (a ++ b) s s' ↔ ∃ x, da_w T a s x ∧ da_w T b x s'
  | [], b, s, s' => ⟨fun h => ⟨s, rfl, h⟩, fun ⟨x, e, h⟩ => by cases (show s = x from e); exact h⟩
  | c :: a, b, s, s' => by
    constructor
    · rintro ⟨s1, h1, h2⟩
      obtain ⟨x, h3, h4⟩ := (da_w_app a b s1 s').mp h2
      exact ⟨x, ⟨s1, h1, h3⟩, h4⟩
    · rintro ⟨x, ⟨s1, h1, h3⟩, h4⟩
      exact ⟨s1, h1, (da_w_app a b s1 s').mpr ⟨x, h3, h4⟩⟩
theorem da_w_1 {T : Nat → Nat → Nat → Prop} {c s s' : Nat} : da_w T [c] s s' ↔ T s c s' :=
  ⟨fun ⟨x, h, e⟩ => by cases (show x = s' from e); exact h, fun h => ⟨s', h, rfl⟩⟩
theorem da_wk_sym {T : Nat → Nat → Nat → Prop} {Z : Nat → Nat → Prop} (hZ : ∀ u v, Z u v → Z v u) : ∀ m u v, da_wk T Z m u v → da_wk T Z m v u
  | 0, u, v, h => hZ u v h
  | m + 1, u, v, ⟨c, u', v', h1, h2, h3⟩ => ⟨c, v', u', h2, h1, da_wk_sym hZ m u' v' h3⟩
theorem da_wk_app {T : Nat → Nat → Nat → Prop} {Z : Nat → Nat → Prop} {m u' v' : Nat} (h : da_wk T Z m u' v') : ∀ (bs : List Nat) (u v : Nat), da_w T bs u u' → da_w T bs v v' → da_wk T Z (m + bs.length) u v
  | [], u, v, e1, e2 => by cases (show u = u' from e1); cases (show v = v' from e2); exact h
  | c :: bs, u, v, ⟨u1, h1, h2⟩, ⟨v1, h3, h4⟩ => ⟨c, u1, v1, h1, h3, da_wk_app h bs u1 v1 h2 h4⟩
theorem da_wk_ex {T : Nat → Nat → Nat → Prop} {Z : Nat → Nat → Prop} : ∀ (m u v : Nat), da_wk T Z m u v → ∃ bs u' v', bs.length = m ∧ da_w T bs u u' ∧ da_w T bs v v' ∧ Z u' v'
  | 0, u, v, h => ⟨[], u, v, rfl, rfl, rfl, h⟩
  | m + 1, u, v, ⟨c, u', v', h1, h2, h3⟩ => by
    obtain ⟨bs, x, y, e, a, b, z⟩ := da_wk_ex m u' v' h3
    exact ⟨c :: bs, x, y, by simp [e], ⟨u', h1, a⟩, ⟨v', h2, b⟩, z⟩
def da_lv (T : Nat → Nat → Nat → Prop) (m u v : Nat) : Prop := da_wk T (fun _ _ => True) m u v
def da_nr (T : Nat → Nat → Nat → Prop) (m u v : Nat) : Prop := da_wk T (fun x y => x = 0 ∧ y = 0) m u v
theorem da_lv_dn {T : Nat → Nat → Nat → Prop} : ∀ (a m u v : Nat), a ≤ m → da_lv T m u v → da_lv T a u v
  | 0, _, _, _, _, _ => trivial
  | a + 1, 0, _, _, h, _ => by omega
  | a + 1, m + 1, u, v, h, ⟨c, u', v', h1, h2, h3⟩ => ⟨c, u', v', h1, h2, da_lv_dn a m u' v' (by omega) h3⟩
section
variable {N : Nat} {L : Nat → Nat} {B : Nat → Nat → Nat}
theorem da_st_lt (hk : da_ok N L B) {s : Nat} (h : da_st N L s) : s < 64 := by
  rcases h with h | ⟨_, h, _⟩
  · omega
  · have := hk.1; omega
theorem da_st_adv (hk : da_ok N L B) {k j : Nat} (h : k < N) (hj : j < L k) : da_st N L (da_adv L k j) := by
  unfold da_adv
  have := hk.2.1 k h
  by_cases e : j + 1 = L k
  · rw [if_pos e]; exact Or.inl rfl
  · rw [if_neg e]
    have h1 : (k * 8 + j + 1) % 8 = j + 1 := by omega
    have h2 : (k * 8 + j + 1) / 8 = k := by omega
    refine Or.inr ⟨by omega, by omega, ?_⟩
    rw [h1, h2]; omega
theorem da_st_mk (hk : da_ok N L B) {k j : Nat} (h : k < N) (h0 : 1 ≤ j) (hj : j < L k) : da_st N L (k * 8 + j) := by
  have := hk.2.1 k h
  have h1 : (k * 8 + j) % 8 = j := by omega
  have h2 : (k * 8 + j) / 8 = k := by omega
  refine Or.inr ⟨by omega, by omega, ?_⟩
  rw [h1, h2]; omega
theorem da_st_ex (hk : da_ok N L B) {s : Nat} (h : da_st N L s) (h0 : s ≠ 0) : ∃ k j, k < N ∧ 1 ≤ j ∧ j < L k ∧ s = k * 8 + j := by
  rcases h with h | ⟨h1, h2, h3⟩
  · exact absurd h h0
  · exact ⟨s / 8, s % 8, h2, by omega, h3, by omega⟩
theorem da_t1_mid (hk : da_ok N L B) {k j : Nat} (h : k < N) (hj : j < L k) (h0 : 1 ≤ j) {c s' : Nat} : da_t1 N L B (k * 8 + j) c s' ↔ B k j = c ∧ s' = da_adv L k j := by
  have := hk.2.1 k h
  have h1 : (k * 8 + j) % 8 = j := by omega
  have h2 : (k * 8 + j) / 8 = k := by omega
  unfold da_t1 da_tr
  constructor
  · rintro ⟨k', a, b, d, e, f⟩
    have : k' = k := by omega
    subst this
    rw [h1] at e f
    exact ⟨e, f⟩
  · rintro ⟨e, f⟩
    refine ⟨k, h, Or.inr h2.symm, ?_, ?_, ?_⟩
    · rw [h1]; exact hj
    · rw [h1]; exact e
    · rw [h1]; exact f
theorem da_t1_0 (hk : da_ok N L B) {c s' : Nat} : da_t1 N L B 0 c s' ↔ ∃ k, k < N ∧ B k 0 = c ∧ s' = da_adv L k 0 := by
  unfold da_t1 da_tr
  constructor
  · rintro ⟨k', a, b, d, e, f⟩
    exact ⟨k', a, e, f⟩
  · rintro ⟨k', a, e, f⟩
    exact ⟨k', a, Or.inl rfl, (hk.2.1 k' a).1, e, f⟩
theorem da_t1_st (hk : da_ok N L B) {s c s' : Nat} (h : da_t1 N L B s c s') : da_st N L s' := by
  obtain ⟨k, a, b, d, e, f⟩ := h
  rw [f]; exact da_st_adv hk a d
theorem da_w_st (hk : da_ok N L B) : ∀ (bs : List Nat) {s s' : Nat}, da_st N L s → da_w (da_t1 N L B) bs s s' → da_st N L s'
  | [], s, s', h, e => by cases (show s = s' from e); exact h
  | _ :: bs, _, _, _, ⟨_, h1, h2⟩ => da_w_st hk bs (da_t1_st hk h1) h2
theorem da_adv_v {k j : Nat} : (j + 1 = L k ∧ da_adv L k j = 0) ∨ (j + 1 ≠ L k ∧ da_adv L k j = k * 8 + (j + 1)) := by
  unfold da_adv
  by_cases e : j + 1 = L k
  · rw [if_pos e]; exact Or.inl ⟨e, rfl⟩
  · rw [if_neg e]; exact Or.inr ⟨e, rfl⟩
/-- from inside two words: the walk ends before the second word does, or comes to a pair with a zero -/
theorem da_D (hk : da_ok N L B) {Z : Nat → Nat → Prop} : ∀ (m w i k j : Nat), w < N → k < N → 1 ≤ i → i < L w → 1 ≤ j → j < L k →
    da_wk (da_t1 N L B) Z m (w * 8 + i) (k * 8 + j) →
    (m < L k - j ∧ ∃ u' v', v' ≠ 0 ∧ Z u' v') ∨ ∃ bs u' v', 1 ≤ bs.length ∧ bs.length ≤ m ∧ bs.length ≤ L k - j ∧ da_w (da_t1 N L B) bs (w * 8 + i) u' ∧ da_w (da_t1 N L B) bs (k * 8 + j) v' ∧ da_wk (da_t1 N L B) Z (m - bs.length) u' v' ∧ (u' = 0 ∨ v' = 0) ∧ da_st N L u' ∧ da_st N L v' := by
  intro m
  induction m with
  | zero =>
    intro w i k j hw hk' hi hiL hj hjL h
    exact Or.inl ⟨by omega, _, _, by omega, h⟩
  | succ m ih =>
    intro w i k j hw hk' hi hiL hj hjL h
    obtain ⟨c, u1, v1, h1, h2, h3⟩ := h
    have s1 := da_t1_st hk h1
    have s2 := da_t1_st hk h2
    have e1 := (da_t1_mid hk hw hiL hi).mp h1
    have e2 := (da_t1_mid hk hk' hjL hj).mp h2
    by_cases z : u1 = 0 ∨ v1 = 0
    · refine Or.inr ⟨[c], u1, v1, Nat.le_refl _, by simp, by simp; omega, da_w_1.mpr h1, da_w_1.mpr h2, ?_, z, s1, s2⟩
      simpa using h3
    · have za : u1 ≠ 0 := fun q => z (Or.inl q)
      have zb : v1 ≠ 0 := fun q => z (Or.inr q)
      rcases da_adv_v (L := L) (k := w) (j := i) with ⟨_, q⟩ | ⟨qa, q⟩
      · exact absurd (e1.2.trans q) za
      rcases da_adv_v (L := L) (k := k) (j := j) with ⟨_, q'⟩ | ⟨qa', q'⟩
      · exact absurd (e2.2.trans q') zb
      have x1 : u1 = w * 8 + (i + 1) := e1.2.trans q
      have x2 : v1 = k * 8 + (j + 1) := e2.2.trans q'
      rw [x1, x2] at h3
      rcases ih w (i + 1) k (j + 1) hw hk' (by omega) (by omega) (by omega) (by omega) h3 with ⟨a, b⟩ | ⟨bs, u', v', a1, a2, a3, a4, a5, a6, a7, a8, a9⟩
      · exact Or.inl ⟨by omega, b⟩
      · refine Or.inr ⟨c :: bs, u', v', by simp, by simp; omega, by simp; omega, ⟨u1, h1, ?_⟩, ⟨v1, h2, ?_⟩, ?_, a7, a8, a9⟩
        · rw [x1]; exact a4
        · rw [x2]; exact a5
        · have : m + 1 - (c :: bs).length = m - bs.length := by simp
          rw [this]; exact a6
def da_g (d : Nat) : Nat := if d % 8 = 0 then 0 else 8 - d % 8
theorem da_D0 (hk : da_ok N L B) {Z : Nat → Nat → Prop} {m c : Nat} (hc : da_st N L c) (c0 : c ≠ 0) (h : da_wk (da_t1 N L B) Z m 0 c) :
    (m < da_g c ∧ ∃ u' v', v' ≠ 0 ∧ Z u' v') ∨ ∃ bs u' v', 1 ≤ bs.length ∧ bs.length ≤ m ∧ bs.length ≤ da_g c ∧ da_w (da_t1 N L B) bs 0 u' ∧ da_w (da_t1 N L B) bs c v' ∧ da_wk (da_t1 N L B) Z (m - bs.length) u' v' ∧ (u' = 0 ∨ v' = 0) ∧ da_st N L u' ∧ da_st N L v' := by
  obtain ⟨k, j, hkN, hj, hjL, rfl⟩ := da_st_ex hk hc c0
  have hL := hk.2.1 k hkN
  have hg : da_g (k * 8 + j) = 8 - j := by
    unfold da_g
    have : (k * 8 + j) % 8 = j := by omega
    rw [this, if_neg (by omega)]
  rw [hg]
  cases m with
  | zero => exact Or.inl ⟨by omega, _, _, c0, h⟩
  | succ m =>
    obtain ⟨c, u1, v1, h1, h2, h3⟩ := h
    have s1 := da_t1_st hk h1
    have s2 := da_t1_st hk h2
    by_cases z : u1 = 0 ∨ v1 = 0
    · refine Or.inr ⟨[c], u1, v1, Nat.le_refl _, by simp, by simp; omega, da_w_1.mpr h1, da_w_1.mpr h2, ?_, z, s1, s2⟩
      simpa using h3
    · have za : u1 ≠ 0 := fun q => z (Or.inl q)
      have zb : v1 ≠ 0 := fun q => z (Or.inr q)
      obtain ⟨w, hw, e1, e1'⟩ := (da_t1_0 hk).mp h1
      have e2 := (da_t1_mid hk hkN hjL hj).mp h2
      have hLw := hk.2.1 w hw
      rcases da_adv_v (L := L) (k := w) (j := 0) with ⟨_, q⟩ | ⟨qa, q⟩
      · exact absurd (e1'.trans q) za
      rcases da_adv_v (L := L) (k := k) (j := j) with ⟨_, q'⟩ | ⟨qa', q'⟩
      · exact absurd (e2.2.trans q') zb
      have x1 : u1 = w * 8 + 1 := e1'.trans q
      have x2 : v1 = k * 8 + (j + 1) := e2.2.trans q'
      rw [x1, x2] at h3
      rcases da_D hk m w 1 k (j + 1) hw hkN (by omega) (by omega) (by omega) (by omega) h3 with ⟨a, b⟩ | ⟨bs, u', v', a1, a2, a3, a4, a5, a6, a7, a8, a9⟩
      · exact Or.inl ⟨by omega, b⟩
      · refine Or.inr ⟨c :: bs, u', v', by simp, by simp; omega, by simp; omega, ⟨u1, h1, ?_⟩, ⟨v1, h2, ?_⟩, ?_, a7, a8, a9⟩
        · rw [x1]; exact a4
        · rw [x2]; exact a5
        · have : m + 1 - (c :: bs).length = m - bs.length := by simp
          rw [this]; exact a6
end
/-! weighted sums over the rests -/
noncomputable def da_ws (P : Nat → Prop) : Nat → Nat
  | 0 => 0
  | m + 1 => da_ws P m + @ite Nat (P m) (Classical.propDecidable _) (da_g m) 0
theorem da_ws_t {P : Nat → Prop} {m : Nat} (h : P m) : da_ws P (m + 1) = da_ws P m + da_g m := by
  show da_ws P m + @ite Nat (P m) (Classical.propDecidable _) (da_g m) 0 = _
  rw [if_pos h]
theorem da_ws_f {P : Nat → Prop} {m : Nat} (h : ¬ P m) : da_ws P (m + 1) = da_ws P m := by
  show da_ws P m + @ite Nat (P m) (Classical.propDecidable _) (da_g m) 0 = _
  rw [if_neg h]; rfl
theorem da_ws_mono {P Q : Nat → Prop} (h : ∀ d, P d → Q d) : ∀ M, da_ws P M ≤ da_ws Q M
  | 0 => Nat.le_refl _
  | M + 1 => by
    have ih := da_ws_mono h M
    rcases Classical.em (P M) with p | p
    · rw [da_ws_t p, da_ws_t (h M p)]; omega
    · rw [da_ws_f p]
      rcases Classical.em (Q M) with q | q
      · rw [da_ws_t q]; omega
      · rw [da_ws_f q]; exact ih
theorem da_ws_add {P Q : Nat → Prop} (h : ∀ d, P d → Q d) {c : Nat} (hp : ¬ P c) (hq : Q c) : ∀ M, c < M → da_ws P M + da_g c ≤ da_ws Q M
  | 0, hc => by omega
  | M + 1, hc => by
    rcases Nat.lt_or_ge c M with z | z
    · have ih := da_ws_add h hp hq M z
      rcases Classical.em (P M) with p | p
      · rw [da_ws_t p, da_ws_t (h M p)]; omega
      · rw [da_ws_f p]
        rcases Classical.em (Q M) with q | q
        · rw [da_ws_t q]; omega
        · rw [da_ws_f q]; exact ih
    · have e : c = M := by omega
      subst e
      rw [da_ws_f hp, da_ws_t hq]
      have := da_ws_mono h c
      omega
def da_gs : Nat → Nat
  | 0 => 0
  | m + 1 => da_gs m + da_g m
theorem da_ws_le (P : Nat → Prop) : ∀ M, da_ws P M ≤ da_gs M
  | 0 => Nat.le_refl _
  | M + 1 => by
    have ih := da_ws_le P M
    show _ ≤ da_gs M + da_g M
    rcases Classical.em (P M) with p | p
    · rw [da_ws_t p]; omega
    · rw [da_ws_f p]; omega
theorem da_gs64 : da_gs 64 = 224 := by decide
section
variable {N : Nat} {L : Nat → Nat} {B : Nat → Nat → Nat}
theorem da_st_next (hk : da_ok N L B) (hN : 0 < N) {s : Nat} (h : da_st N L s) : ∃ c s', da_t1 N L B s c s' := by
  by_cases z : s = 0
  · subst z
    exact ⟨_, _, (da_t1_0 hk).mpr ⟨0, hN, rfl, rfl⟩⟩
  · obtain ⟨k, j, a, b, d, rfl⟩ := da_st_ex hk h z
    exact ⟨_, _, (da_t1_mid hk a d b).mpr ⟨rfl, rfl⟩⟩
theorem da_lv_diag (hk : da_ok N L B) (hN : 0 < N) : ∀ (m s : Nat), da_st N L s → da_lv (da_t1 N L B) m s s
  | 0, _, _ => trivial
  | m + 1, s, h => by
    obtain ⟨c, s', e⟩ := da_st_next hk hN h
    exact ⟨c, s', s', e, e, da_lv_diag hk hN m s' (da_t1_st hk e)⟩
theorem da_hb (hk : da_ok N L B) (hN : 0 < N) : ∀ (M m c : Nat), m ≤ M → da_st N L c → da_lv (da_t1 N L B) m 0 c → ¬ da_lv (da_t1 N L B) (m + 1) 0 c →
    m ≤ da_ws (fun d => ¬ da_lv (da_t1 N L B) (m + 1) 0 d) 64 := by
  intro M
  induction M with
  | zero => intro m c h _ _ _; omega
  | succ M ih =>
    intro m c hm hc h1 h2
    have c0 : c ≠ 0 := by
      intro e; subst e
      exact h2 (da_lv_diag hk hN _ _ (Or.inl rfl))
    have hc64 := da_st_lt hk hc
    have hcs : da_g c ≤ da_ws (fun d => ¬ da_lv (da_t1 N L B) (m + 1) 0 d) 64 := by
      have := da_ws_add (P := fun _ => False) (Q := fun d => ¬ da_lv (da_t1 N L B) (m + 1) 0 d) (fun d h => h.elim) (c := c) (fun h => h) h2 64 hc64
      omega
    rcases da_D0 hk hc c0 h1 with ⟨a, _⟩ | ⟨bs, u', v', a1, a2, a3, a4, a5, a6, a7, a8, a9⟩
    · omega
    · obtain ⟨c', hc', b1, b2⟩ : ∃ c', da_st N L c' ∧ da_lv (da_t1 N L B) (m - bs.length) 0 c' ∧ ¬ da_lv (da_t1 N L B) (m - bs.length + 1) 0 c' := by
        rcases a7 with q | q
        · subst q
          refine ⟨v', a9, a6, fun w => h2 ?_⟩
          have := da_wk_app w bs 0 c a4 a5
          rwa [show m - bs.length + 1 + bs.length = m + 1 by omega] at this
        · subst q
          refine ⟨u', a8, da_wk_sym (fun _ _ _ => trivial) _ _ _ a6, fun w => h2 ?_⟩
          have := da_wk_app (da_wk_sym (fun _ _ _ => trivial) _ _ _ w) bs 0 c a4 a5
          rwa [show m - bs.length + 1 + bs.length = m + 1 by omega] at this
      have ih' := ih (m - bs.length) c' (by omega) hc' b1 b2
      have := da_ws_add (P := fun d => ¬ da_lv (da_t1 N L B) (m - bs.length + 1) 0 d) (Q := fun d => ¬ da_lv (da_t1 N L B) (m + 1) 0 d)
        (fun d h w => h (da_lv_dn _ _ _ _ (by omega) w)) (c := c) (fun h => h (da_lv_dn _ _ _ _ (by omega) h1)) h2 64 hc64
      omega
/-- a finite height of a pair (0, c) is at most 224 -/
theorem da_hb224 (hk : da_ok N L B) (hN : 0 < N) {c : Nat} (hc : da_st N L c) (h : da_lv (da_t1 N L B) 225 0 c) : ∀ m, da_lv (da_t1 N L B) m 0 c := by
  intro m
  rcases Classical.em (da_lv (da_t1 N L B) m 0 c) with w | w
  · exact w
  · exfalso
    obtain ⟨x, hx, hl⟩ := pk_least (fun m => ¬ da_lv (da_t1 N L B) m 0 c) ⟨m, w⟩
    have hx' : 225 < x := by
      rcases Nat.lt_or_ge 225 x with q | q
      · exact q
      · exact absurd (da_lv_dn _ _ _ _ q h) hx
    have h1 : da_lv (da_t1 N L B) (x - 1) 0 c := by
      rcases Classical.em (da_lv (da_t1 N L B) (x - 1) 0 c) with w | w
      · exact w
      · exact absurd w (hl (x - 1) (by omega))
    have h2 : ¬ da_lv (da_t1 N L B) (x - 1 + 1) 0 c := by rwa [show x - 1 + 1 = x by omega]
    have := da_hb hk hN _ _ c (Nat.le_refl _) hc h1 h2
    have := da_ws_le (fun d => ¬ da_lv (da_t1 N L B) (x - 1 + 1) 0 d) 64
    rw [da_gs64] at this
    omega
theorem da_db (hk : da_ok N L B) : ∀ (M m c : Nat), m ≤ M → da_st N L c → da_nr (da_t1 N L B) m 0 c → (∀ j, j < m → ¬ da_nr (da_t1 N L B) j 0 c) →
    m ≤ da_ws (fun d => ∃ j, j ≤ m ∧ da_nr (da_t1 N L B) j 0 d) 64 := by
  intro M
  induction M with
  | zero => intro m c h _ _ _; omega
  | succ M ih =>
    intro m c hm hc h1 h2
    have hc64 := da_st_lt hk hc
    by_cases c0 : c = 0
    · subst c0
      rcases Nat.eq_zero_or_pos m with q | q
      · omega
      · exact absurd ⟨rfl, rfl⟩ (h2 0 q)
    have hcs : da_g c ≤ da_ws (fun d => ∃ j, j ≤ m ∧ da_nr (da_t1 N L B) j 0 d) 64 := by
      have := da_ws_add (P := fun _ => False) (Q := fun d => ∃ j, j ≤ m ∧ da_nr (da_t1 N L B) j 0 d) (fun d h => h.elim) (c := c) (fun h => h) ⟨m, Nat.le_refl _, h1⟩ 64 hc64
      omega
    rcases da_D0 hk hc c0 h1 with ⟨a, u', v', b, d⟩ | ⟨bs, u', v', a1, a2, a3, a4, a5, a6, a7, a8, a9⟩
    · exact absurd d.2 b
    · obtain ⟨c', hc', b1, b2⟩ : ∃ c', da_st N L c' ∧ da_nr (da_t1 N L B) (m - bs.length) 0 c' ∧ ∀ j, j < m - bs.length → ¬ da_nr (da_t1 N L B) j 0 c' := by
        rcases a7 with q | q
        · subst q
          refine ⟨v', a9, a6, fun j hj w => h2 (j + bs.length) (by omega) ?_⟩
          exact da_wk_app w bs 0 c a4 a5
        · subst q
          refine ⟨u', a8, da_wk_sym (fun _ _ z => ⟨z.2, z.1⟩) _ _ _ a6, fun j hj w => h2 (j + bs.length) (by omega) ?_⟩
          exact da_wk_app (da_wk_sym (fun _ _ z => ⟨z.2, z.1⟩) _ _ _ w) bs 0 c a4 a5
      have ih' := ih (m - bs.length) c' (by omega) hc' b1 b2
      have := da_ws_add (P := fun d => ∃ j, j ≤ m - bs.length ∧ da_nr (da_t1 N L B) j 0 d) (Q := fun d => ∃ j, j ≤ m ∧ da_nr (da_t1 N L B) j 0 d)
        (fun d ⟨j, a, b⟩ => ⟨j, by omega, b⟩) (c := c) (fun ⟨j, a, b⟩ => h2 j (by omega) b) ⟨m, Nat.le_refl _, h1⟩ 64 hc64
      omega
/-- the least distance of a pair (0, c) to (0, 0) is at most 224 -/
theorem da_db224 (hk : da_ok N L B) {c m : Nat} (hc : da_st N L c) (h1 : da_nr (da_t1 N L B) m 0 c) : ∃ j, j ≤ 224 ∧ da_nr (da_t1 N L B) j 0 c := by
  obtain ⟨x, hx, hl⟩ := pk_least (fun m => da_nr (da_t1 N L B) m 0 c) ⟨m, h1⟩
  have := da_db hk _ x c (Nat.le_refl _) hc hx hl
  have := da_ws_le (fun d => ∃ j, j ≤ x ∧ da_nr (da_t1 N L B) j 0 d) 64
  rw [da_gs64] at this
  exact ⟨x, by omega, hx⟩
end
end
section
/-! strings as numbers with a leading one; the two forms of ambiguity; the trie's graph as a quotient; readings -/
def da_cd : Nat → List Nat → Nat
  | w, [] => w
  | w, c :: bs => da_cd (2 * w + c) bs
theorem da_cd_app : ∀ (a b : List Nat) (w : Nat), da_cd w (a ++ b) = da_cd (da_cd w a) b
  | [], _, _ => rfl
  | _ :: a, b, _ => da_cd_app a b _
theorem da_cd_mono : ∀ (bs : List Nat) {w w' : Nat}, w ≤ w' → da_cd w bs ≤ da_cd w' bs
  | [], _, _, h => h
  | c :: bs, w, w', h => da_cd_mono bs (by omega)
theorem da_cd_ge : ∀ (bs : List Nat) (w : Nat), w ≤ da_cd w bs
  | [], _ => Nat.le_refl _
  | c :: bs, w => Nat.le_trans (by omega) (da_cd_ge bs (2 * w + c))
theorem da_cd_lo : ∀ (bs : List Nat) (w : Nat), w * 2 ^ bs.length ≤ da_cd w bs
  | [], w => by simp [da_cd]
  | c :: bs, w => by
    have h := da_cd_lo bs (2 * w + c)
    have e : w * 2 ^ (bs.length + 1) = (2 * w) * 2 ^ bs.length := by rw [Nat.pow_succ, Nat.mul_comm 2 w, Nat.mul_assoc, Nat.mul_comm 2]
    have : (2 * w) * 2 ^ bs.length ≤ (2 * w + c) * 2 ^ bs.length := Nat.mul_le_mul_right _ (by omega)
    show w * 2 ^ (bs.length + 1) ≤ da_cd (2 * w + c) bs
    omega
theorem da_cd_hi : ∀ (bs : List Nat) (w : Nat), (∀ c, c ∈ bs → c < 2) → da_cd w bs < (w + 1) * 2 ^ bs.length
  | [], w, _ => by simp [da_cd]
  | c :: bs, w, hb => by
    have h := da_cd_hi bs (2 * w + c) (fun x hx => hb x (List.mem_cons_of_mem _ hx))
    have hc := hb c (List.mem_cons_self ..)
    have e : (w + 1) * 2 ^ (bs.length + 1) = (2 * (w + 1)) * 2 ^ bs.length := by rw [Nat.pow_succ, Nat.mul_comm 2 (w + 1), Nat.mul_assoc, Nat.mul_comm 2]
    have : (2 * w + c + 1) * 2 ^ bs.length ≤ (2 * (w + 1)) * 2 ^ bs.length := Nat.mul_le_mul_right _ (by omega)
    show da_cd (2 * w + c) bs < (w + 1) * 2 ^ (bs.length + 1)
    omega
theorem da_cd_inj0 : ∀ (a b : List Nat) (w w' : Nat), a.length = b.length → (∀ c, c ∈ a → c < 2) → (∀ c, c ∈ b → c < 2) → da_cd w a = da_cd w' b → w = w' ∧ a = b
  | [], [], w, w', _, _, _, h => ⟨h, rfl⟩
  | [], _ :: _, _, _, h, _, _, _ => by simp at h
  | _ :: _, [], _, _, h, _, _, _ => by simp at h
  | c :: a, d :: b, w, w', hl, ha, hb, h => by
    have hc := ha c (List.mem_cons_self ..)
    have hd := hb d (List.mem_cons_self ..)
    have ih := da_cd_inj0 a b (2 * w + c) (2 * w' + d) (by simpa using hl) (fun x hx => ha x (List.mem_cons_of_mem _ hx)) (fun x hx => hb x (List.mem_cons_of_mem _ hx)) h
    obtain ⟨e, rfl⟩ := ih
    have : w = w' := by omega
    have : c = d := by omega
    subst this
    exact ⟨by omega, rfl⟩
theorem da_cd_lt {a b : List Nat} (hl : a.length < b.length) (ha : ∀ c, c ∈ a → c < 2) : da_cd 1 a < da_cd 1 b := by
  have h1 := da_cd_hi a 1 ha
  have h2 := da_cd_lo b 1
  have h3 : 2 ^ (a.length + 1) ≤ 2 ^ b.length := Nat.pow_le_pow_right (by omega) hl
  rw [Nat.pow_succ] at h3
  omega
theorem da_cd_inj {a b : List Nat} (ha : ∀ c, c ∈ a → c < 2) (hb : ∀ c, c ∈ b → c < 2) (h : da_cd 1 a = da_cd 1 b) : a = b := by
  rcases Nat.lt_trichotomy a.length b.length with q | q | q
  · have := da_cd_lt q ha; omega
  · exact (da_cd_inj0 a b 1 1 q ha hb h).2
  · have := da_cd_lt q hb; omega
def da_ax (T : Nat → Nat → Nat → Prop) (bs : List Nat) : Prop := ∃ bs' c s t, bs = bs' ++ [c] ∧ s ≠ t ∧ da_w T bs' 0 s ∧ da_w T bs' 0 t ∧ T s c 0 ∧ T t c 0
def da_ay (N : Nat) (L : Nat → Nat) (B : Nat → Nat → Nat) (bs : List Nat) : Prop := ∃ c bs' k1 k2 s t, bs = c :: bs' ∧ k1 ≠ k2 ∧ da_tr N L B 0 k1 c s ∧ da_tr N L B 0 k2 c t ∧ da_w (da_t1 N L B) bs' s 0 ∧ da_w (da_t1 N L B) bs' t 0
def da_nds (nd : Nat → Nat → Nat) (s : Nat) : Nat := nd (s / 8) (s % 8)
def da_xt (N : Nat) (L : Nat → Nat) (B : Nat → Nat → Nat) (nd : Nat → Nat → Nat) (u c u' : Nat) : Prop := ∃ k j, k < N ∧ j < L k ∧ u = nd k j ∧ B k j = c ∧ ((j + 1 = L k ∧ u' = 0) ∨ (j + 1 ≠ L k ∧ u' = nd k (j + 1)))
def da_ndok (N : Nat) (L : Nat → Nat) (B : Nat → Nat → Nat) (nd : Nat → Nat → Nat) : Prop := (∀ k, nd k 0 = 0) ∧ ∀ k j k' j', k < N → j < L k → k' < N → j' < L k' → (nd k j = nd k' j' ↔ j = j' ∧ ∀ x, x < j → B k x = B k' x)
section
variable {N : Nat} {L : Nat → Nat} {B : Nat → Nat → Nat} {nd : Nat → Nat → Nat}
theorem da_t1_b (hk : da_ok N L B) {s c s' : Nat} (h : da_t1 N L B s c s') : c < 2 := by
  obtain ⟨k, a, b, d, e, f⟩ := h
  rw [← e]; exact hk.2.2.1 _ _
theorem da_w_b {T : Nat → Nat → Nat → Prop} (hT : ∀ s c s', T s c s' → c < 2) : ∀ (bs : List Nat) {s s' : Nat}, da_w T bs s s' → ∀ c, c ∈ bs → c < 2
  | [], _, _, _, c, h => by cases h
  | d :: bs, s, s', ⟨x, h1, h2⟩, c, h => by
    rcases List.mem_cons.mp h with e | e
    · rw [e]; exact hT _ _ _ h1
    · exact da_w_b hT bs h2 c e
theorem da_ay_b (hk : da_ok N L B) {bs : List Nat} (h : da_ay N L B bs) : ∀ c, c ∈ bs → c < 2 := by
  obtain ⟨c, bs', k1, k2, s, t, e, _, h1, _, h2, _⟩ := h
  subst e
  intro x hx
  rcases List.mem_cons.mp hx with e | e
  · rw [e]; exact da_t1_b hk ⟨k1, h1⟩
  · exact da_w_b (fun _ _ _ h => da_t1_b hk h) bs' h2 x e
theorem da_xt_b (hk : da_ok N L B) {s c s' : Nat} (h : da_xt N L B nd s c s') : c < 2 := by
  obtain ⟨k, j, a, b, d, e, f⟩ := h
  rw [← e]; exact hk.2.2.1 _ _
theorem da_ax_b {T : Nat → Nat → Nat → Prop} (hT : ∀ s c s', T s c s' → c < 2) {bs : List Nat} (h : da_ax T bs) : ∀ c, c ∈ bs → c < 2 := by
  obtain ⟨bs', c, s, t, e, _, h1, _, h2, _⟩ := h
  subst e
  intro x hx
  rcases List.mem_append.mp hx with e | e
  · exact da_w_b hT bs' h1 x e
  · rw [List.mem_singleton.mp e]; exact hT _ _ _ h2
/-- equal targets of different states: only zero -/
theorem da_t1_ne (hk : da_ok N L B) {s t c x : Nat} (hs : da_st N L s) (ht : da_st N L t) (hne : s ≠ t) (h1 : da_t1 N L B s c x) (h2 : da_t1 N L B t c x) : x = 0 := by
  rcases Nat.eq_zero_or_pos x with z | z
  · exact z
  exfalso
  have key : ∀ s, da_st N L s → da_t1 N L B s c x → s = if x % 8 = 1 then 0 else x - 1 := by
    intro s hs h
    by_cases s0 : s = 0
    · subst s0
      obtain ⟨k, hkN, e, f⟩ := (da_t1_0 hk).mp h
      rcases da_adv_v (L := L) (k := k) (j := 0) with ⟨_, q⟩ | ⟨_, q⟩
      · omega
      · have : x % 8 = 1 := by omega
        rw [if_pos this]
    · obtain ⟨k, j, a, b, d, rfl⟩ := da_st_ex hk hs s0
      have hL := hk.2.1 k a
      obtain ⟨e, f⟩ := (da_t1_mid hk a d b).mp h
      rcases da_adv_v (L := L) (k := k) (j := j) with ⟨_, q⟩ | ⟨_, q⟩
      · omega
      · have : ¬ x % 8 = 1 := by omega
        rw [if_neg this]; omega
  exact hne ((key s hs h1).trans (key t ht h2).symm)
theorem da_ay_ax0 (hk : da_ok N L B) : ∀ (bs : List Nat) (s t : Nat), da_st N L s → da_st N L t → s ≠ t → da_w (da_t1 N L B) bs s 0 → da_w (da_t1 N L B) bs t 0 →
    ∃ b1 c b2 s' t', bs = b1 ++ [c] ++ b2 ∧ s' ≠ t' ∧ da_w (da_t1 N L B) b1 s s' ∧ da_w (da_t1 N L B) b1 t t' ∧ da_t1 N L B s' c 0 ∧ da_t1 N L B t' c 0
  | [], s, t, _, _, hne, h1, h2 => absurd ((show s = 0 from h1).trans (show t = 0 from h2).symm) hne
  | c :: bs, s, t, hs, ht, hne, ⟨s1, a1, a2⟩, ⟨t1, b1, b2⟩ => by
    by_cases e : s1 = t1
    · subst e
      have := da_t1_ne hk hs ht hne a1 b1
      subst this
      exact ⟨[], c, bs, s, t, rfl, hne, rfl, rfl, a1, b1⟩
    · obtain ⟨x1, d, x2, s', t', e1, e2, e3, e4, e5, e6⟩ := da_ay_ax0 hk bs s1 t1 (da_t1_st hk a1) (da_t1_st hk b1) e a2 b2
      exact ⟨c :: x1, d, x2, s', t', by rw [e1]; rfl, e2, ⟨s1, a1, e3⟩, ⟨t1, b1, e4⟩, e5, e6⟩
theorem da_tr0_ne (hk : da_ok N L B) {k1 k2 c s t : Nat} (hne : k1 ≠ k2) (h1 : da_tr N L B 0 k1 c s) (h2 : da_tr N L B 0 k2 c t) : s ≠ t := by
  obtain ⟨a1, _, a2, a3, a4⟩ := h1
  obtain ⟨b1, _, b2, b3, b4⟩ := h2
  intro e
  simp only [Nat.zero_mod] at a3 a4 b3 b4
  have l1 := hk.2.1 k1 a1
  have l2 := hk.2.1 k2 b1
  rcases da_adv_v (L := L) (k := k1) (j := 0) with ⟨p, q⟩ | ⟨p, q⟩
  · rcases da_adv_v (L := L) (k := k2) (j := 0) with ⟨p', q'⟩ | ⟨p', q'⟩
    · refine hne (hk.2.2.2 k1 k2 a1 b1 (by omega) (fun j hj => ?_))
      have : j = 0 := by omega
      subst this
      omega
    · omega
  · rcases da_adv_v (L := L) (k := k2) (j := 0) with ⟨p', q'⟩ | ⟨p', q'⟩
    · omega
    · omega
theorem da_ay_ax (hk : da_ok N L B) {bs : List Nat} (h : da_ay N L B bs) : ∃ b1 b2, bs = b1 ++ b2 ∧ da_ax (da_t1 N L B) b1 := by
  obtain ⟨c, bs', k1, k2, s, t, e, hne, h1, h2, h3, h4⟩ := h
  obtain ⟨b1, d, b2, s', t', e1, e2, e3, e4, e5, e6⟩ := da_ay_ax0 hk bs' s t (da_t1_st hk ⟨k1, h1⟩) (da_t1_st hk ⟨k2, h2⟩) (da_tr0_ne hk hne h1 h2) h3 h4
  refine ⟨c :: b1 ++ [d], b2, ?_, c :: b1, d, s', t', rfl, e2, ⟨s, ⟨k1, h1⟩, e3⟩, ⟨t, ⟨k2, h2⟩, e4⟩, e5, e6⟩
  rw [e, e1]; simp
theorem da_ax_ay0 (hk : da_ok N L B) : ∀ (bs : List Nat) (x c s t : Nat), da_st N L x → s ≠ t → da_w (da_t1 N L B) bs x s → da_w (da_t1 N L B) bs x t → da_t1 N L B s c 0 → da_t1 N L B t c 0 →
    ∃ b1 b2, bs ++ [c] = b1 ++ b2 ∧ da_ay N L B b2
  | [], x, _, s, t, _, hne, h1, h2, _, _ => absurd ((show x = s from h1).symm.trans (show x = t from h2)) hne
  | d :: bs, x, c, s, t, hx, hne, ⟨s1, a1, a2⟩, ⟨t1, b1, b2⟩, h3, h4 => by
    by_cases e : s1 = t1
    · subst e
      obtain ⟨p, q, e1, e2⟩ := da_ax_ay0 hk bs s1 c s t (da_t1_st hk a1) hne a2 b2 h3 h4
      exact ⟨d :: p, q, by rw [List.cons_append, e1]; rfl, e2⟩
    · obtain ⟨k1, z1⟩ := a1
      obtain ⟨k2, z2⟩ := b1
      have hkk : k1 ≠ k2 := by
        intro q; subst q
        exact e (z1.2.2.2.2.trans z2.2.2.2.2.symm)
      have hx0 : x = 0 := by
        rcases z1.2.1 with q | q
        · exact q
        · rcases z2.2.1 with q' | q'
          · exact q'
          · exact absurd (q.trans q'.symm) hkk
      subst hx0
      refine ⟨[], d :: (bs ++ [c]), rfl, d, bs ++ [c], k1, k2, s1, t1, rfl, hkk, z1, z2, ?_, ?_⟩
      · exact (da_w_app _ _ _ _).mpr ⟨s, a2, da_w_1.mpr h3⟩
      · exact (da_w_app _ _ _ _).mpr ⟨t, b2, da_w_1.mpr h4⟩
theorem da_ax_ay (hk : da_ok N L B) {bs : List Nat} (h : da_ax (da_t1 N L B) bs) : ∃ b1 b2, bs = b1 ++ b2 ∧ da_ay N L B b2 := by
  obtain ⟨bs', c, s, t, e, hne, h1, h2, h3, h4⟩ := h
  obtain ⟨p, q, e1, e2⟩ := da_ax_ay0 hk bs' 0 c s t (Or.inl rfl) hne h1 h2 h3 h4
  exact ⟨p, q, by rw [e, e1], e2⟩
/-! the quotient by the trie's nodes -/
theorem da_nds_0 (hn : da_ndok N L B nd) : da_nds nd 0 = 0 := hn.1 0
theorem da_nds_z (hk : da_ok N L B) (hn : da_ndok N L B nd) {s : Nat} (hs : da_st N L s) (h : da_nds nd s = 0) : s = 0 := by
  rcases Nat.eq_zero_or_pos s with z | z
  · exact z
  exfalso
  obtain ⟨k, j, a, b, d, rfl⟩ := da_st_ex hk hs (by omega)
  have hL := hk.2.1 k a
  have h1 : (k * 8 + j) % 8 = j := by omega
  have h2 : (k * 8 + j) / 8 = k := by omega
  unfold da_nds at h
  rw [h1, h2, ← hn.1 k] at h
  have := ((hn.2 k j k 0 a d a (by omega)).mp h).1
  omega
theorem da_nds_mk (hk : da_ok N L B) (hn : da_ndok N L B nd) {k j : Nat} (h : k < N) (hj : j < L k) : ∃ s, da_st N L s ∧ da_nds nd s = nd k j ∧ (∀ c s', B k j = c → s' = da_adv L k j → da_t1 N L B s c s') ∧ (j = 0 → s = 0) ∧ (j ≠ 0 → s = k * 8 + j) := by
  have hL := hk.2.1 k h
  by_cases z : j = 0
  · subst z
    refine ⟨0, Or.inl rfl, (hn.1 0).trans (hn.1 k).symm, fun c s' e1 e2 => (da_t1_0 hk).mpr ⟨k, h, e1, e2⟩, fun _ => rfl, fun z => absurd rfl z⟩
  · have h1 : (k * 8 + j) % 8 = j := by omega
    have h2 : (k * 8 + j) / 8 = k := by omega
    refine ⟨k * 8 + j, da_st_mk hk h (by omega) hj, ?_, fun c s' e1 e2 => (da_t1_mid hk h hj (by omega)).mpr ⟨e1, e2⟩, fun q => absurd q z, fun _ => rfl⟩
    unfold da_nds; rw [h1, h2]
theorem da_xt_of (hk : da_ok N L B) (hn : da_ndok N L B nd) {s c s' : Nat} (h : da_t1 N L B s c s') : da_xt N L B nd (da_nds nd s) c (da_nds nd s') := by
  obtain ⟨k, a, b, d, e, f⟩ := h
  have hL := hk.2.1 k a
  refine ⟨k, s % 8, a, d, ?_, e, ?_⟩
  · unfold da_nds
    rcases b with b | b
    · subst b; exact (hn.1 _).trans (hn.1 _).symm
    · rw [b]
  · rcases da_adv_v (L := L) (k := k) (j := s % 8) with ⟨p, q⟩ | ⟨p, q⟩
    · exact Or.inl ⟨p, by rw [f, q]; exact da_nds_0 hn⟩
    · refine Or.inr ⟨p, ?_⟩
      rw [f, q]
      have h1 : (k * 8 + (s % 8 + 1)) % 8 = s % 8 + 1 := by omega
      have h2 : (k * 8 + (s % 8 + 1)) / 8 = k := by omega
      unfold da_nds; rw [h1, h2]
theorem da_xt_back (hk : da_ok N L B) (hn : da_ndok N L B nd) {u c u' s' : Nat} (h : da_xt N L B nd u c u') (hs : da_st N L s') (e : da_nds nd s' = u') : ∃ s, da_st N L s ∧ da_nds nd s = u ∧ da_t1 N L B s c s' := by
  obtain ⟨k, j, a, b, d, f, g⟩ := h
  have hL := hk.2.1 k a
  rcases g with ⟨g1, g2⟩ | ⟨g1, g2⟩
  · have z := da_nds_z hk hn hs (e.trans g2)
    subst z
    obtain ⟨s, x1, x2, x3, _, _⟩ := da_nds_mk hk hn a b
    refine ⟨s, x1, x2.trans d.symm, x3 c 0 f ?_⟩
    unfold da_adv; rw [if_pos g1]
  · have s0 : s' ≠ 0 := by
      intro q; subst q
      rw [da_nds_0 hn] at e
      have := ((hn.2 k 0 k (j + 1) a (by omega) a (by omega)).mp (by rw [hn.1, e, g2])).1
      omega
    obtain ⟨k', j', a', b', d', rfl⟩ := da_st_ex hk hs s0
    have hL' := hk.2.1 k' a'
    have h1 : (k' * 8 + j') % 8 = j' := by omega
    have h2 : (k' * 8 + j') / 8 = k' := by omega
    unfold da_nds at e
    rw [h1, h2, g2] at e
    obtain ⟨e1, e2⟩ := (hn.2 k' j' k (j + 1) a' d' a (by omega)).mp e
    subst e1
    obtain ⟨s, x1, x2, x3, _, _⟩ := da_nds_mk hk hn (j := j) a' (by omega)
    refine ⟨s, x1, ?_, x3 c _ ((e2 j (by omega)).trans f) ?_⟩
    · rw [x2, d]
      exact (hn.2 k' j k j a' (by omega) a b).mpr ⟨rfl, fun x hx => e2 x (by omega)⟩
    · unfold da_adv; rw [if_neg (by omega)]; rfl
theorem da_xw_of (hk : da_ok N L B) (hn : da_ndok N L B nd) : ∀ (bs : List Nat) {s s' : Nat}, da_w (da_t1 N L B) bs s s' → da_w (da_xt N L B nd) bs (da_nds nd s) (da_nds nd s')
  | [], s, s', e => by cases (show s = s' from e); exact rfl
  | _ :: bs, _, _, ⟨_, h1, h2⟩ => ⟨_, da_xt_of hk hn h1, da_xw_of hk hn bs h2⟩
theorem da_xw_back (hk : da_ok N L B) (hn : da_ndok N L B nd) : ∀ (bs : List Nat) {u u' s' : Nat}, da_w (da_xt N L B nd) bs u u' → da_st N L s' → da_nds nd s' = u' → ∃ s, da_st N L s ∧ da_nds nd s = u ∧ da_w (da_t1 N L B) bs s s'
  | [], u, u', s', e, hs, h => ⟨s', hs, h.trans (show u = u' from e).symm, rfl⟩
  | c :: bs, u, u', s', ⟨x, h1, h2⟩, hs, h => by
    obtain ⟨s1, a1, a2, a3⟩ := da_xw_back hk hn bs h2 hs h
    obtain ⟨s, b1, b2, b3⟩ := da_xt_back hk hn h1 a1 a2
    exact ⟨s, b1, b2, s1, b3, a3⟩
theorem da_ax_xt (hk : da_ok N L B) (hn : da_ndok N L B nd) {bs : List Nat} : da_ax (da_xt N L B nd) bs ↔ da_ax (da_t1 N L B) bs := by
  constructor
  · rintro ⟨bs', c, u, v, e, hne, h1, h2, h3, h4⟩
    obtain ⟨s, a1, a2, a3⟩ := da_xt_back hk hn h3 (Or.inl rfl) (da_nds_0 hn)
    obtain ⟨t, b1, b2, b3⟩ := da_xt_back hk hn h4 (Or.inl rfl) (da_nds_0 hn)
    obtain ⟨s0, c1, c2, c3⟩ := da_xw_back hk hn bs' h1 a1 a2
    obtain ⟨t0, d1, d2, d3⟩ := da_xw_back hk hn bs' h2 b1 b2
    have z1 := da_nds_z hk hn c1 c2
    have z2 := da_nds_z hk hn d1 d2
    subst z1; subst z2
    refine ⟨bs', c, s, t, e, ?_, c3, d3, a3, b3⟩
    intro q; subst q
    exact hne (a2.symm.trans b2)
  · rintro ⟨bs', c, s, t, e, hne, h1, h2, h3, h4⟩
    have x1 := da_xw_of hk hn bs' h1
    have x2 := da_xw_of hk hn bs' h2
    have x3 := da_xt_of hk hn h3
    have x4 := da_xt_of hk hn h4
    rw [da_nds_0 hn] at x1 x2 x3 x4
    refine ⟨bs', c, _, _, e, ?_, x1, x2, x3, x4⟩
    intro q
    have hs := da_w_st hk bs' (Or.inl rfl) h1
    have ht := da_w_st hk bs' (Or.inl rfl) h2
    obtain ⟨k, a, b, d, f, g⟩ := h3
    obtain ⟨k', a', b', d', f', g'⟩ := h4
    have key : ∀ s k, da_st N L s → k < N → (s = 0 ∨ k = s / 8) → s % 8 < L k → 0 = da_adv L k (s % 8) → da_nds nd s = nd k (L k - 1) ∧ s % 8 = L k - 1 ∧ (s % 8 ≠ 0 → s / 8 = k) := by
      intro s k hs a b d g
      have e1 : s % 8 = L k - 1 := by
        rcases da_adv_v (L := L) (k := k) (j := s % 8) with ⟨p, q⟩ | ⟨p, q⟩
        · omega
        · omega
      refine ⟨?_, e1, ?_⟩
      · unfold da_nds
        rcases b with b | b
        · subst b
          rw [← e1]; exact (hn.1 _).trans (hn.1 _).symm
        · rw [← b, e1]
      · intro z
        rcases b with b | b
        · subst b; exact absurd rfl z
        · exact b.symm
    obtain ⟨p1, p2, p3⟩ := key s k hs a b d g
    obtain ⟨r1, r2, r3⟩ := key t k' ht a' b' d' g'
    rw [p1, r1] at q
    obtain ⟨y1, y2⟩ := (hn.2 k (L k - 1) k' (L k' - 1) a (by omega) a' (by omega)).mp q
    have hkk : k = k' := by
      refine hk.2.2.2 k k' a a' (by omega) (fun j hj => ?_)
      rcases Nat.lt_or_ge j (L k - 1) with z | z
      · exact y2 j z
      · have : j = L k - 1 := by omega
        rw [this]
        rw [p2] at f
        rw [r2, ← y1] at f'
        exact f.trans f'.symm
    subst hkk
    apply hne
    by_cases z : L k - 1 = 0
    · rcases b with b | b
      · rcases b' with b' | b'
        · rw [b, b']
        · rcases ht with w | ⟨w, _, _⟩
          · rw [b, w]
          · omega
      · rcases hs with w | ⟨w, _, _⟩
        · rcases ht with w' | ⟨w', _, _⟩
          · rw [w, w']
          · omega
        · omega
    · have := p3 (by omega)
      have := r3 (by omega)
      omega
theorem da_lvx (hk : da_ok N L B) (hn : da_ndok N L B nd) : ∀ (m u v : Nat), (∃ s, da_st N L s ∧ da_nds nd s = u) → (∃ s, da_st N L s ∧ da_nds nd s = v) → da_lv (da_xt N L B nd) m u v → ∃ s t, da_st N L s ∧ da_st N L t ∧ da_nds nd s = u ∧ da_nds nd t = v ∧ da_lv (da_t1 N L B) m s t
  | 0, u, v, ⟨s, h1, h2⟩, ⟨t, h3, h4⟩, _ => ⟨s, t, h1, h3, h2, h4, trivial⟩
  | m + 1, u, v, _, _, ⟨c, u', v', h1, h2, h3⟩ => by
    have ex : ∀ u c u', da_xt N L B nd u c u' → ∃ s, da_st N L s ∧ da_nds nd s = u' := by
      rintro u c u' ⟨k, j, a, b, d, f, g⟩
      rcases g with ⟨g1, g2⟩ | ⟨g1, g2⟩
      · exact ⟨0, Or.inl rfl, (da_nds_0 hn).trans g2.symm⟩
      · obtain ⟨s, x1, x2, _⟩ := da_nds_mk hk hn (j := j + 1) a (by omega)
        exact ⟨s, x1, x2.trans g2.symm⟩
    obtain ⟨s1, t1, a1, a2, a3, a4, a5⟩ := da_lvx hk hn m u' v' (ex _ _ _ h1) (ex _ _ _ h2) h3
    obtain ⟨s, b1, b2, b3⟩ := da_xt_back hk hn h1 a1 a3
    obtain ⟨t, d1, d2, d3⟩ := da_xt_back hk hn h2 a2 a4
    exact ⟨s, t, b1, d1, b2, d2, c, s1, t1, b3, d3, a5⟩
theorem da_lvx_of (hk : da_ok N L B) (hn : da_ndok N L B nd) : ∀ (m s t : Nat), da_lv (da_t1 N L B) m s t → da_lv (da_xt N L B nd) m (da_nds nd s) (da_nds nd t)
  | 0, _, _, _ => trivial
  | m + 1, _, _, ⟨c, s', t', h1, h2, h3⟩ => ⟨c, _, _, da_xt_of hk hn h1, da_xt_of hk hn h2, da_lvx_of hk hn m s' t' h3⟩
/-- the two least strings are one -/
theorem da_min_eq (hk : da_ok N L B) (hn : da_ndok N L B nd) {x y : List Nat} (hx : da_ax (da_xt N L B nd) x) (mx : ∀ z, da_ax (da_xt N L B nd) z → da_cd 1 x ≤ da_cd 1 z) (hy : da_ay N L B y) (my : ∀ z, da_ay N L B z → da_cd 1 y ≤ da_cd 1 z) : x = y := by
  refine da_cd_inj (da_ax_b (fun _ _ _ h => da_xt_b hk h) hx) (da_ay_b hk hy) (Nat.le_antisymm ?_ ?_)
  · obtain ⟨p, q, e, h⟩ := da_ay_ax hk hy
    have h1 := mx p ((da_ax_xt hk hn).mpr h)
    have h2 := da_cd_ge q (da_cd 1 p)
    rw [e, da_cd_app]; omega
  · obtain ⟨p, q, e, h⟩ := da_ax_ay hk ((da_ax_xt hk hn).mp hx)
    have h1 := my q h
    have h2 := da_cd_mono q (da_cd_ge p 1)
    rw [e, da_cd_app]; omega
theorem da_nr_of {T : Nat → Nat → Nat → Prop} {m u v : Nat} : da_nr T m u v ↔ ∃ bs, bs.length = m ∧ da_w T bs u 0 ∧ da_w T bs v 0 := by
  constructor
  · intro h
    obtain ⟨bs, u', v', e, a, b, z1, z2⟩ := da_wk_ex m u v h
    rw [z1] at a; rw [z2] at b
    exact ⟨bs, e, a, b⟩
  · rintro ⟨bs, e, a, b⟩
    have := da_wk_app (Z := fun x y => x = 0 ∧ y = 0) (m := 0) ⟨rfl, rfl⟩ bs u v a b
    rw [Nat.zero_add, e] at this
    exact this
/-- if there is a string with two readings there is one of at most 232 bits -/
theorem da_ay232 (hk : da_ok N L B) {bs : List Nat} (h : da_ay N L B bs) : ∃ z, da_ay N L B z ∧ z.length ≤ 232 := by
  obtain ⟨c, bs', k1, k2, s, t, e, hne, h1, h2, h3, h4⟩ := h
  have hs := da_t1_st hk ⟨k1, h1⟩
  have ht := da_t1_st hk ⟨k2, h2⟩
  have near : ∀ u v m, da_st N L u → da_st N L v → (u = 0 ∨ v = 0) → da_nr (da_t1 N L B) m u v → ∃ z, z.length ≤ 224 ∧ da_w (da_t1 N L B) z u 0 ∧ da_w (da_t1 N L B) z v 0 := by
    intro u v m hu hv hz h
    rcases hz with q | q
    · subst q
      obtain ⟨j, hj, hn⟩ := da_db224 hk hv h
      obtain ⟨z, e, a, b⟩ := da_nr_of.mp hn
      exact ⟨z, by omega, a, b⟩
    · subst q
      obtain ⟨j, hj, hn⟩ := da_db224 hk hu (da_wk_sym (fun _ _ z => ⟨z.2, z.1⟩) _ _ _ h)
      obtain ⟨z, e, a, b⟩ := da_nr_of.mp hn
      exact ⟨z, by omega, b, a⟩
  have hst : da_nr (da_t1 N L B) bs'.length s t := da_nr_of.mpr ⟨bs', rfl, h3, h4⟩
  obtain ⟨z, hz, a, b⟩ : ∃ z, z.length ≤ 231 ∧ da_w (da_t1 N L B) z s 0 ∧ da_w (da_t1 N L B) z t 0 := by
    by_cases q : s = 0 ∨ t = 0
    · obtain ⟨z, e, a, b⟩ := near s t _ hs ht q hst
      exact ⟨z, by omega, a, b⟩
    · obtain ⟨w, i, p1, p2, p3, rfl⟩ := da_st_ex hk hs (fun z => q (Or.inl z))
      obtain ⟨k, j, r1, r2, r3, rfl⟩ := da_st_ex hk ht (fun z => q (Or.inr z))
      have hL := hk.2.1 k r1
      rcases da_D hk _ w i k j p1 r1 p2 p3 r2 r3 hst with ⟨_, u', v', x1, _, x2⟩ | ⟨z, u', v', x1, x2, x3, x4, x5, x6, x7, x8, x9⟩
      · exact absurd x2 x1
      · obtain ⟨y, e, a, b⟩ := near u' v' _ x8 x9 x7 x6
        refine ⟨z ++ y, by rw [List.length_append]; omega, (da_w_app _ _ _ _).mpr ⟨_, x4, a⟩, (da_w_app _ _ _ _).mpr ⟨_, x5, b⟩⟩
  exact ⟨c :: z, ⟨c, z, k1, k2, s, t, rfl, hne, h1, h2, a, b⟩, by simp; omega⟩
end
/-! readings -/
def da_m (L : Nat → Nat) (B : Nat → Nat → Nat) (t : Nat → Nat) (i k : Nat) : Prop := ∀ j, j < L k → t (i + j) = B k j
def da_rd (N : Nat) (L : Nat → Nat) (B : Nat → Nat → Nat) (t : Nat → Nat) : Nat → List Nat → Nat → Prop
  | i, [], e => i = e
  | i, k :: l, e => k < N ∧ da_m L B t i k ∧ da_rd N L B t (i + L k) l e
def da_sg (t : Nat → Nat) : Nat → Nat → List Nat
  | _, 0 => []
  | i, n + 1 => t i :: da_sg t (i + 1) n
theorem da_sg_app (t : Nat → Nat) : ∀ a i b, da_sg t i (a + b) = da_sg t i a ++ da_sg t (i + a) b
  | 0, i, b => by rw [Nat.zero_add]; rfl
  | a + 1, i, b => by
    rw [show a + 1 + b = (a + b) + 1 by omega]
    show t i :: da_sg t (i + 1) (a + b) = _
    rw [da_sg_app t a (i + 1) b, show i + 1 + a = i + (a + 1) by omega]
    rfl
section
variable {N : Nat} {L : Nat → Nat} {B : Nat → Nat → Nat} {t : Nat → Nat}
theorem da_rd_app : ∀ (a b : List Nat) (i e : Nat), da_rd N L B t i (a ++ b) e ↔ ∃ x, da_rd N L B t i a x ∧ da_rd N L B t x b e
  | [], b, i, e => ⟨fun h => ⟨i, rfl, h⟩, fun ⟨x, q, h⟩ => by cases (show i = x from q); exact h⟩
  | k :: a, b, i, e => by
    constructor
    · rintro ⟨h1, h2, h3⟩
      obtain ⟨x, h4, h5⟩ := (da_rd_app a b _ e).mp h3
      exact ⟨x, ⟨h1, h2, h4⟩, h5⟩
    · rintro ⟨x, ⟨h1, h2, h4⟩, h5⟩
      exact ⟨h1, h2, (da_rd_app a b _ e).mpr ⟨x, h4, h5⟩⟩
theorem da_rd_le (hk : da_ok N L B) : ∀ (l : List Nat) (i e : Nat), da_rd N L B t i l e → i + l.length ≤ e
  | [], i, e, h => by cases (show i = e from h); exact Nat.le_refl _
  | k :: l, i, e, ⟨h1, _, h3⟩ => by
    have := da_rd_le hk l _ e h3
    have := (hk.2.1 k h1).1
    simp only [List.length_cons]; omega
theorem da_wA (hk : da_ok N L B) {k i : Nat} (h : k < N) (hm : da_m L B t i k) : ∀ (d j : Nat), j + d = L k → 1 ≤ j → da_w (da_t1 N L B) (da_sg t (i + j) d) (if j = L k then 0 else k * 8 + j) 0
  | 0, j, e, _ => by
    rw [if_pos (by omega)]; exact rfl
  | d + 1, j, e, h1 => by
    rw [if_neg (by omega)]
    refine ⟨da_adv L k j, (da_t1_mid hk h (by omega) h1).mpr ⟨(hm j (by omega)).symm, rfl⟩, ?_⟩
    have := da_wA hk h hm d (j + 1) (by omega) (by omega)
    exact this
theorem da_wB (hk : da_ok N L B) : ∀ (l : List Nat) (i e : Nat), da_rd N L B t i l e → da_w (da_t1 N L B) (da_sg t i (e - i)) 0 0 ∧ ∀ k l', l = k :: l' → i < e ∧ da_tr N L B 0 k (t i) (da_adv L k 0) ∧ da_w (da_t1 N L B) (da_sg t (i + 1) (e - i - 1)) (da_adv L k 0) 0
  | [], i, e, h => by
    cases (show i = e from h)
    refine ⟨?_, fun k l' h => by cases h⟩
    rw [Nat.sub_self]; exact rfl
  | k :: l, i, e, ⟨h1, h2, h3⟩ => by
    have hL := hk.2.1 k h1
    have le := da_rd_le hk l _ e h3
    obtain ⟨ih, _⟩ := da_wB hk l _ e h3
    have t0 : da_tr N L B 0 k (t i) (da_adv L k 0) := ⟨h1, Or.inl rfl, hL.1, (h2 0 hL.1).symm, rfl⟩
    have w1 := da_wA hk h1 h2 (L k - 1) 1 (by omega) (Nat.le_refl _)
    have w2 : da_w (da_t1 N L B) (da_sg t (i + 1) (e - i - 1)) (da_adv L k 0) 0 := by
      have e1 : e - i - 1 = (L k - 1) + (e - (i + L k)) := by omega
      rw [e1, da_sg_app, show i + 1 + (L k - 1) = i + L k by omega]
      refine (da_w_app _ _ _ _).mpr ⟨0, ?_, ih⟩
      have e2 : da_adv L k 0 = if 1 = L k then 0 else k * 8 + 1 := rfl
      rw [e2]; exact w1
    refine ⟨?_, fun k' l' q => ?_⟩
    · rw [show e - i = (e - i - 1) + 1 by omega]
      exact ⟨_, ⟨k, t0⟩, w2⟩
    · cases q
      exact ⟨by omega, t0, w2⟩
theorem da_rd_uniq (hk : da_ok N L B) (hna : ∀ bs, ¬ da_ay N L B bs) : ∀ (l1 l2 : List Nat) (i e : Nat), da_rd N L B t i l1 e → da_rd N L B t i l2 e → l1 = l2
  | [], [], _, _, _, _ => rfl
  | [], k :: l, i, e, h1, h2 => by
    have := da_rd_le hk _ _ _ h2
    have : i = e := h1
    simp only [List.length_cons] at *; omega
  | k :: l, [], i, e, h1, h2 => by
    have := da_rd_le hk _ _ _ h1
    have : i = e := h2
    simp only [List.length_cons] at *; omega
  | k1 :: l1, k2 :: l2, i, e, h1, h2 => by
    by_cases q : k1 = k2
    · subst q
      rw [da_rd_uniq hk hna l1 l2 _ e h1.2.2 h2.2.2]
    · exfalso
      obtain ⟨a1, a2, a3⟩ := (da_wB hk _ _ _ h1).2 k1 l1 rfl
      obtain ⟨b1, b2, b3⟩ := (da_wB hk _ _ _ h2).2 k2 l2 rfl
      exact hna _ ⟨t i, _, k1, k2, _, _, rfl, q, a2, b2, a3, b3⟩
end
end
section
/-! sums; the number of readings, from the front and from the back -/
def da_sm (f : Nat → Nat) : Nat → Nat
  | 0 => 0
  | n + 1 => da_sm f n + f n
theorem da_sm_eq {f g : Nat → Nat} : ∀ {n : Nat}, (∀ k, k < n → f k = g k) → da_sm f n = da_sm g n
  | 0, _ => rfl
  | n + 1, h => by
    show da_sm f n + f n = da_sm g n + g n
    rw [da_sm_eq (fun k hk => h k (by omega)), h n (by omega)]
theorem da_sm_add (f g : Nat → Nat) : ∀ n, da_sm (fun k => f k + g k) n = da_sm f n + da_sm g n
  | 0 => rfl
  | n + 1 => by
    show da_sm (fun k => f k + g k) n + (f n + g n) = (da_sm f n + f n) + (da_sm g n + g n)
    rw [da_sm_add f g n]; omega
theorem da_sm_0 : ∀ n, da_sm (fun _ => 0) n = 0
  | 0 => rfl
  | n + 1 => da_sm_0 n
theorem da_sm_ex (f : Nat → Nat → Nat) (m : Nat) : ∀ n, da_sm (fun a => da_sm (fun b => f a b) m) n = da_sm (fun b => da_sm (fun a => f a b) n) m
  | 0 => (da_sm_0 m).symm
  | n + 1 => by
    show da_sm (fun a => da_sm (fun b => f a b) m) n + da_sm (fun b => f n b) m = da_sm (fun b => da_sm (fun a => f a b) n + f n b) m
    rw [da_sm_add, da_sm_ex f m n]
theorem da_sm_pos {f : Nat → Nat} : ∀ {n : Nat}, 0 < da_sm f n ↔ ∃ k, k < n ∧ 0 < f k
  | 0 => ⟨fun h => by simp [da_sm] at h, fun ⟨k, h, _⟩ => by omega⟩
  | n + 1 => by
    show 0 < da_sm f n + f n ↔ _
    constructor
    · intro h
      by_cases z : 0 < f n
      · exact ⟨n, by omega, z⟩
      · obtain ⟨k, a, b⟩ := (da_sm_pos (f := f) (n := n)).mp (by omega)
        exact ⟨k, by omega, b⟩
    · rintro ⟨k, a, b⟩
      rcases Nat.lt_or_ge k n with z | z
      · have := (da_sm_pos (f := f) (n := n)).mpr ⟨k, z, b⟩
        omega
      · have : k = n := by omega
        subst this; omega
theorem da_sm_cap (f : Nat → Nat) (C : Nat) : ∀ n, min (da_sm (fun k => min (f k) C) n) C = min (da_sm f n) C
  | 0 => rfl
  | n + 1 => by
    have ih := da_sm_cap f C n
    show min (da_sm (fun k => min (f k) C) n + min (f n) C) C = min (da_sm f n + f n) C
    omega
theorem da_sm_le {f : Nat → Nat} {C : Nat} : ∀ {n : Nat}, (∀ k, k < n → f k ≤ C) → da_sm f n ≤ n * C
  | 0, _ => by simp [da_sm]
  | n + 1, h => by
    have ih := da_sm_le (n := n) (fun k hk => h k (by omega))
    have := h n (by omega)
    show da_sm f n + f n ≤ _
    rw [Nat.add_mul, Nat.one_mul]; omega
/-- an 'if' over a Prop -/
noncomputable def da_if (P : Prop) (x : Nat) : Nat := @ite Nat P (Classical.propDecidable P) x 0
theorem da_if_t {P : Prop} {x : Nat} (h : P) : da_if P x = x := by unfold da_if; rw [if_pos h]
theorem da_if_f {P : Prop} {x : Nat} (h : ¬ P) : da_if P x = 0 := by unfold da_if; rw [if_neg h]
theorem da_fx {α V : Type} [Inhabited V] (μ : α → Nat) (F : (α → V) → α → V) : ∃ f : α → V, ∀ a, f a = F (fun b => if μ b < μ a then f b else default) a := by
  refine ⟨(measure μ).wf.fix (fun a r => F (fun b => if h : μ b < μ a then r b h else default) a), fun a => ?_⟩
  rw [WellFounded.fix_eq]
  apply congrArg (fun z => F z a)
  funext b
  by_cases h : μ b < μ a <;> simp [h]
section
variable {N : Nat} {L : Nat → Nat} {B : Nat → Nat → Nat} {t : Nat → Nat}
/-- G i d: the number of readings of the d bits from i on -/
def da_G (N : Nat) (L : Nat → Nat) (B : Nat → Nat → Nat) (t : Nat → Nat) (G : Nat → Nat → Nat) : Prop :=
  ∀ i d, G i d = da_if (d = 0) 1 + da_sm (fun k => da_if (da_m L B t i k ∧ L k ≤ d) (G (i + L k) (d - L k))) N
theorem da_G_ex (hk : da_ok N L B) : ∃ G, da_G N L B t G := by
  obtain ⟨f, hf⟩ := da_fx (V := Nat) (fun a : Nat × Nat => a.2) (fun g a => da_if (a.2 = 0) 1 + da_sm (fun k => da_if (da_m L B t a.1 k ∧ L k ≤ a.2) (g (a.1 + L k, a.2 - L k))) N)
  refine ⟨fun i d => f (i, d), fun i d => ?_⟩
  show f (i, d) = _
  rw [hf (i, d)]
  apply congrArg (fun z => da_if (d = 0) 1 + z)
  refine da_sm_eq (fun k hkN => ?_)
  have hL := hk.2.1 k hkN
  show da_if (da_m L B t i k ∧ L k ≤ d) (if d - L k < d then f (i + L k, d - L k) else default) = _
  rcases Classical.em (da_m L B t i k ∧ L k ≤ d) with h | h
  · rw [da_if_t h, da_if_t h, if_pos (by omega)]
  · rw [da_if_f h, da_if_f h]
theorem da_G_pos (hk : da_ok N L B) {G : Nat → Nat → Nat} (hG : da_G N L B t G) : ∀ (M d i : Nat), d ≤ M → (0 < G i d ↔ ∃ l, da_rd N L B t i l (i + d)) := by
  intro M
  induction M with
  | zero =>
    intro d i hd
    have : d = 0 := by omega
    subst this
    rw [hG i 0, da_if_t rfl]
    exact ⟨fun _ => ⟨[], rfl⟩, fun _ => by omega⟩
  | succ M ih =>
    intro d i hd
    rw [hG i d]
    by_cases z : d = 0
    · subst z
      rw [da_if_t rfl]
      exact ⟨fun _ => ⟨[], rfl⟩, fun _ => by omega⟩
    · rw [da_if_f z, Nat.zero_add, da_sm_pos]
      constructor
      · rintro ⟨k, hkN, h⟩
        rcases Classical.em (da_m L B t i k ∧ L k ≤ d) with q | q
        · rw [da_if_t q] at h
          have hL := hk.2.1 k hkN
          obtain ⟨l, hl⟩ := (ih (d - L k) (i + L k) (by omega)).mp h
          refine ⟨k :: l, hkN, q.1, ?_⟩
          rwa [show i + L k + (d - L k) = i + d by omega] at hl
        · rw [da_if_f q] at h; omega
      · rintro ⟨l, hl⟩
        cases l with
        | nil => exact absurd (show i = i + d from hl) (by omega)
        | cons k l =>
          obtain ⟨h1, h2, h3⟩ := hl
          have hL := hk.2.1 k h1
          have := da_rd_le hk _ _ _ h3
          refine ⟨k, h1, ?_⟩
          rw [da_if_t ⟨h2, by omega⟩]
          refine (ih (d - L k) (i + L k) (by omega)).mpr ⟨l, ?_⟩
          rwa [show i + L k + (d - L k) = i + d by omega]
/-- the same number, by its last word -/
theorem da_G_last (hk : da_ok N L B) {G : Nat → Nat → Nat} (hG : da_G N L B t G) : ∀ (M d i : Nat), d ≤ M → G i d = da_if (d = 0) 1 + da_sm (fun k => da_if (da_m L B t (i + d - L k) k ∧ L k ≤ d) (G i (d - L k))) N := by
  intro M
  induction M with
  | zero =>
    intro d i hd
    have : d = 0 := by omega
    subst this
    rw [hG i 0]
    apply congrArg (fun z => da_if ((0 : Nat) = 0) 1 + z)
    refine da_sm_eq (fun k hkN => ?_)
    have hL := hk.2.1 k hkN
    rw [da_if_f (by omega), da_if_f (by omega)]
  | succ M ih =>
    intro d i hd
    rw [hG i d]
    apply congrArg (fun z => da_if (d = 0) 1 + z)
    have e1 : ∀ k1, k1 < N → da_if (da_m L B t i k1 ∧ L k1 ≤ d) (G (i + L k1) (d - L k1)) = da_if (da_m L B t i k1 ∧ L k1 = d) 1 + da_sm (fun k2 => da_if (da_m L B t i k1 ∧ da_m L B t (i + d - L k2) k2 ∧ L k1 + L k2 ≤ d) (G (i + L k1) (d - L k1 - L k2))) N := by
      intro k1 hk1
      have hL := hk.2.1 k1 hk1
      rcases Classical.em (da_m L B t i k1 ∧ L k1 ≤ d) with q | q
      · rw [da_if_t q, ih (d - L k1) (i + L k1) (by omega)]
        have a1 : da_if (d - L k1 = 0) 1 = da_if (da_m L B t i k1 ∧ L k1 = d) 1 := by
          by_cases z : d - L k1 = 0
          · rw [da_if_t z, da_if_t ⟨q.1, by omega⟩]
          · rw [da_if_f z, da_if_f (by omega)]
        rw [a1]
        apply congrArg (fun z => da_if (da_m L B t i k1 ∧ L k1 = d) 1 + z)
        refine da_sm_eq (fun k2 hk2 => ?_)
        have hL2 := hk.2.1 k2 hk2
        have ep : i + L k1 + (d - L k1) - L k2 = i + d - L k2 := by omega
        rw [ep]
        rcases Classical.em (da_m L B t (i + d - L k2) k2 ∧ L k2 ≤ d - L k1) with r | r
        · rw [da_if_t r, da_if_t ⟨q.1, r.1, by omega⟩]
        · rw [da_if_f r, da_if_f (fun w => r ⟨w.2.1, by omega⟩)]
      · rw [da_if_f q, da_if_f (fun w => q ⟨w.1, by omega⟩)]
        rw [da_sm_eq (g := fun _ => 0) (fun k2 hk2 => da_if_f (fun w => q ⟨w.1, by omega⟩)), da_sm_0]
    have e2 : ∀ k2, k2 < N → da_if (da_m L B t (i + d - L k2) k2 ∧ L k2 ≤ d) (G i (d - L k2)) = da_if (da_m L B t i k2 ∧ L k2 = d) 1 + da_sm (fun k1 => da_if (da_m L B t i k1 ∧ da_m L B t (i + d - L k2) k2 ∧ L k1 + L k2 ≤ d) (G (i + L k1) (d - L k1 - L k2))) N := by
      intro k2 hk2
      have hL := hk.2.1 k2 hk2
      rcases Classical.em (da_m L B t (i + d - L k2) k2 ∧ L k2 ≤ d) with q | q
      · rw [da_if_t q, hG i (d - L k2)]
        have a1 : da_if (d - L k2 = 0) 1 = da_if (da_m L B t i k2 ∧ L k2 = d) 1 := by
          by_cases z : d - L k2 = 0
          · have : i + d - L k2 = i := by omega
            rw [da_if_t z, da_if_t ⟨by rw [← this]; exact q.1, by omega⟩]
          · rw [da_if_f z, da_if_f (by omega)]
        rw [a1]
        apply congrArg (fun z => da_if (da_m L B t i k2 ∧ L k2 = d) 1 + z)
        refine da_sm_eq (fun k1 hk1 => ?_)
        rcases Classical.em (da_m L B t i k1 ∧ L k1 ≤ d - L k2) with r | r
        · rw [da_if_t r, da_if_t ⟨r.1, q.1, by omega⟩, show d - L k2 - L k1 = d - L k1 - L k2 by omega]
        · rw [da_if_f r, da_if_f (fun w => r ⟨w.1, by omega⟩)]
      · have n1 : ¬ (da_m L B t i k2 ∧ L k2 = d) := fun w => q ⟨by rw [show i + d - L k2 = i by omega]; exact w.1, by omega⟩
        rw [da_if_f q, da_if_f n1]
        rw [da_sm_eq (g := fun _ => 0) (fun k1 hk1 => da_if_f (fun w => q ⟨w.2.1, by omega⟩)), da_sm_0]
    rw [da_sm_eq e1, da_sm_eq e2, da_sm_add, da_sm_add, da_sm_ex]
end
end
section
/-! the code in the arrays; bits; the reference's step; the component's step and successor over a trie -/
def da_L (al : Nat → Int32) (k : Nat) : Nat := (al k).toNatClampNeg
def da_B (aw al : Nat → Int32) (k j : Nat) : Nat := ((aw k).toNatClampNeg / 2 ^ (da_L al k - 1 - j)) % 2
def da_cok (N : Nat) (aw al : Nat → Int32) : Prop :=
  N ≤ 8 ∧ (∀ k, k < N → ∃ w l, aw k = nI w ∧ al k = nI l ∧ 1 ≤ l ∧ l ≤ 8 ∧ 2 ^ l ≤ w ∧ w < 2 ^ (l + 1)) ∧ (∀ a b, a < N → b < N → aw a = aw b → a = b)
theorem da_p9 {l w : Nat} (hl : l ≤ 8) (h : w < 2 ^ (l + 1)) : w < 512 := by
  have : 2 ^ (l + 1) ≤ 2 ^ 9 := Nat.pow_le_pow_right (by omega) (by omega)
  omega
theorem da_cok_v {N : Nat} {aw al : Nat → Int32} (hc : da_cok N aw al) {k : Nat} (hk : k < N) : al k = nI (da_L al k) ∧ 1 ≤ da_L al k ∧ da_L al k ≤ 8 ∧ ∃ w, aw k = nI w ∧ 2 ^ da_L al k ≤ w ∧ w < 2 ^ (da_L al k + 1) ∧ w < 512 ∧ (aw k).toNatClampNeg = w := by
  obtain ⟨w, l, e1, e2, h1, h2, h3, h4⟩ := hc.2.1 k hk
  have h5 := da_p9 h2 h4
  have e3 : da_L al k = l := by unfold da_L; rw [e2, nI_clamp (by omega)]
  have e4 : (aw k).toNatClampNeg = w := by rw [e1, nI_clamp (by omega)]
  rw [e3]
  exact ⟨e2, h1, h2, w, e1, h3, h4, h5, e4⟩
theorem da_bits_eq {l w w' : Nat} (a : 2 ^ l ≤ w) (b : w < 2 ^ (l + 1)) (a' : 2 ^ l ≤ w') (b' : w' < 2 ^ (l + 1)) (h : ∀ j, j < l → w / 2 ^ (l - 1 - j) % 2 = w' / 2 ^ (l - 1 - j) % 2) : w = w' := by
  have key : ∀ l w w', 2 ^ l ≤ w → w < 2 ^ (l + 1) → 2 ^ l ≤ w' → w' < 2 ^ (l + 1) → (∀ x, x < l → w / 2 ^ x % 2 = w' / 2 ^ x % 2) → w = w' := by
    intro l
    induction l with
    | zero => intro w w' a b a' b' _; simp at a b a' b'; omega
    | succ l ih =>
      intro w w' a b a' b' h
      rw [Nat.pow_succ] at a b a' b'
      have h0 := h 0 (by omega)
      simp only [Nat.pow_zero, Nat.div_one] at h0
      have := ih (w / 2) (w' / 2) (by omega) (by omega) (by omega) (by omega) (fun x hx => by
        have := h (x + 1) (by omega)
        rw [Nat.pow_succ, Nat.mul_comm, ← Nat.div_div_eq_div_mul, ← Nat.div_div_eq_div_mul] at this
        exact this)
      omega
  refine key l w w' a b a' b' (fun x hx => ?_)
  have := h (l - 1 - x) (by omega)
  rwa [show l - 1 - (l - 1 - x) = x by omega] at this
theorem da_cok_ok {N : Nat} {aw al : Nat → Int32} (hc : da_cok N aw al) : da_ok N (da_L al) (da_B aw al) := by
  refine ⟨hc.1, fun k hk => ?_, fun k j => Nat.mod_lt _ (by omega), fun a b ha hb e h => ?_⟩
  · have := da_cok_v hc hk; exact ⟨this.2.1, this.2.2.1⟩
  · obtain ⟨_, _, _, w, e1, h1, h2, h3, h4⟩ := da_cok_v hc ha
    obtain ⟨_, _, _, w', e1', h1', h2', h3', h4'⟩ := da_cok_v hc hb
    refine hc.2.2 a b ha hb ?_
    rw [e1, e1']
    rw [← e] at h1' h2'
    refine congrArg nI (da_bits_eq h1 h2 h1' h2' (fun j hj => ?_))
    have := h j hj
    unfold da_B at this
    rwa [h4, h4', ← e] at this
theorem da_and1 {n : Nat} (h : n < 2 ^ 31) : nI n &&& 1 = nI (n % 2) := pk_andN (by omega) 1 (by decide)
theorem da_shr {w x : Nat} (hw : w < 2 ^ 31) (hx : x < 32) : nI w >>> (nI x &&& 31) = nI (w / 2 ^ x) := pk_shrN hw _ x (s_l x hx)
theorem da_bitE {N : Nat} {aw al : Nat → Int32} (hc : da_cok N aw al) {k j : Nat} (hk : k < N) (hj : j < da_L al k) : ((aw k) >>> ((((al k) - 1) - nI j) &&& 31)) &&& 1 = nI (da_B aw al k j) := by
  obtain ⟨e2, h1, h2, w, e1, h3, h4, h5, e4⟩ := da_cok_v hc hk
  have s1 : al k - 1 - nI j = nI (da_L al k - 1 - j) := by
    rw [e2, show (1 : Int32) = nI 1 from rfl, pk_sub h1, pk_sub (by omega)]
  unfold da_B
  rw [s1, e4, e1, da_shr (by omega) (by omega), da_and1 (Nat.lt_of_le_of_lt (Nat.div_le_self _ _) (by omega))]
theorem da_neg1 : (-1 : Int32) < 0 := by decide
theorem da_n1 (n : Nat) (h : n < 2 ^ 31) : ¬ nI n = -1 := fun e => nI_pos h (e ▸ da_neg1)
section
variable {yf_maxWords yf_maxLength yf_capacity yf_n yf_verdict yf_witLen yf_textLen yf_pos yf_finished yf_settledN yf_opens : Int32} {ya_word ya_wlen ya_delays ya_wit ya_text ya_near ya_life ya_set ya_next ya_ways ya_msg ya_settled : Nat → Int32}
theorem yw_bitOf {N k j : Nat} {post : Int32 → Prop} (hc : da_cok N ya_word ya_wlen) (hk : k < N) (hj : j < 64) (h1 : j < da_L ya_wlen k → post (nI (da_B ya_word ya_wlen k j))) (h2 : ¬ j < da_L ya_wlen k → post (-1)) : wpY_bitOf post (yf_maxWords, yf_maxLength, yf_capacity, nI N, yf_verdict, yf_witLen, yf_textLen, yf_pos, yf_finished, yf_settledN, yf_opens, ya_word, ya_wlen, ya_delays, ya_wit, ya_text, ya_near, ya_life, ya_set, ya_next, ya_ways, ya_msg, ya_settled) (nI k) (nI j) := by
  have hN := hc.1
  obtain ⟨e2, l1, l2, _⟩ := da_cok_v hc hk
  have ik : vp_in (nI k) 8 := vp_in_nI (by omega) (by omega)
  have ck : (nI k).toNatClampNeg = k := nI_clamp (by omega)
  refine br_f (nI_pos (by omega)) (br_f (nI_ge hk (by omega)) (br_f (nI_pos (by omega)) (And.intro ik ?_)))
  rw [ck, e2]
  refine pk_lt j (da_L ya_wlen k) (fun q => ⟨ik, ik, ?_⟩) (fun q => h2 (by omega))
  rw [← e2, da_bitE hc hk q]
  exact h1 q
theorem yw_step20 {N k j c : Nat} {post : Int32 → Prop} (hc : da_cok N ya_word ya_wlen) (hk : k < N) (hj : j < 8) (hb : c < 2) (h1 : j < da_L ya_wlen k → da_B ya_word ya_wlen k j = c → post (nI (da_adv (da_L ya_wlen) k j))) (h2 : ¬ (j < da_L ya_wlen k ∧ da_B ya_word ya_wlen k j = c) → post (-1)) : wY_step_20 post (nI k) (nI c) (nI j) yf_maxWords yf_maxLength yf_capacity (nI N) yf_verdict yf_witLen yf_textLen yf_pos yf_finished yf_settledN yf_opens ya_word ya_wlen ya_delays ya_wit ya_text ya_near ya_life ya_set ya_next ya_ways ya_msg ya_settled := by
  have hN := hc.1
  obtain ⟨e2, l1, l2, _⟩ := da_cok_v hc hk
  have ik : vp_in (nI k) 8 := vp_in_nI (by omega) (by omega)
  have ck : (nI k).toNatClampNeg = k := nI_clamp (by omega)
  have hB : da_B ya_word ya_wlen k j < 2 := Nat.mod_lt _ (by omega)
  refine yw_bitOf hc hk (by omega) (fun q => ?_) (fun q => br_f (fun e => da_n1 c (by omega) e.symm) (h2 (fun z => q z.1)))
  refine pk_eq _ c (fun e => ⟨ik, ?_⟩) (fun e => h2 (fun z => e z.2))
  have h1' := h1 q e
  rw [ck, e2, nI_1]
  unfold da_adv at h1'
  refine pk_eq (j + 1) (da_L ya_wlen k) (fun e => ?_) (fun e => ?_)
  · rwa [if_pos e] at h1'
  · rw [if_neg e] at h1'
    rw [show (8 : Int32) = nI 8 from rfl, pk_mul, nI_add, nI_1]
    exact h1'
theorem yw_step {N s k c : Nat} {post : Int32 → Prop} (hc : da_cok N ya_word ya_wlen) (hs : s < 64) (hk : k < N) (hb : c < 2) (h : ∀ r, ((r = -1 ∧ ∀ s', ¬ da_tr N (da_L ya_wlen) (da_B ya_word ya_wlen) s k c s') ∨ ∃ s', s' < 64 ∧ r = nI s' ∧ da_tr N (da_L ya_wlen) (da_B ya_word ya_wlen) s k c s') → post r) : wpY_step post (yf_maxWords, yf_maxLength, yf_capacity, nI N, yf_verdict, yf_witLen, yf_textLen, yf_pos, yf_finished, yf_settledN, yf_opens, ya_word, ya_wlen, ya_delays, ya_wit, ya_text, ya_near, ya_life, ya_set, ya_next, ya_ways, ya_msg, ya_settled) (nI s) (nI k) (nI c) := by
  have hN := hc.1
  have e1 : nI s - nI s / 8 * 8 = nI (s % 8) := pk_rem (d := 8) (by omega) (by omega) (by omega)
  have e2 : nI s / 8 = nI (s / 8) := pk_div (d := 8) (by omega) (by omega) (by omega)
  have hok := da_cok_ok hc
  refine And.intro (by decide) (nm_r e1 ?_)
  have main : (s = 0 ∨ k = s / 8) → wY_step_20 post (nI k) (nI c) (nI (s % 8)) yf_maxWords yf_maxLength yf_capacity (nI N) yf_verdict yf_witLen yf_textLen yf_pos yf_finished yf_settledN yf_opens ya_word ya_wlen ya_delays ya_wit ya_text ya_near ya_life ya_set ya_next ya_ways ya_msg ya_settled := by
    intro q
    refine yw_step20 hc hk (by omega) hb (fun q1 q2 => h _ (Or.inr ⟨_, da_st_lt hok (da_st_adv hok hk q1), rfl, hk, q, q1, q2, rfl⟩)) (fun z => h _ (Or.inl ⟨rfl, fun s' w => z ⟨w.2.2.1, w.2.2.2.1⟩⟩))
  refine pk_eq s 0 (fun q => main (Or.inl q)) (fun q => ⟨by decide, ?_⟩)
  rw [e2]
  refine pk_eq k (s / 8) (fun q' => main (Or.inr q')) (fun q' => h _ (Or.inl ⟨rfl, fun s' w => ?_⟩))
  rcases w.2.1 with z | z
  · exact q z
  · exact q' z
theorem yw_isState {N s : Nat} {post : Int32 → Prop} (hc : da_cok N ya_word ya_wlen) (hs : s < 64) (h1 : da_st N (da_L ya_wlen) s → post 1) (h0 : ¬ da_st N (da_L ya_wlen) s → post 0) : wpY_isState post (yf_maxWords, yf_maxLength, yf_capacity, nI N, yf_verdict, yf_witLen, yf_textLen, yf_pos, yf_finished, yf_settledN, yf_opens, ya_word, ya_wlen, ya_delays, ya_wit, ya_text, ya_near, ya_life, ya_set, ya_next, ya_ways, ya_msg, ya_settled) (nI s) := by
  have hN := hc.1
  have e1 : nI s - nI s / 8 * 8 = nI (s % 8) := pk_rem (d := 8) (by omega) (by omega) (by omega)
  have e2 : nI s / 8 = nI (s / 8) := pk_div (d := 8) (by omega) (by omega) (by omega)
  refine pk_eq s 0 (fun q => h1 (Or.inl q)) (fun q => And.intro (by decide) ?_)
  rw [e1, e2]
  refine pk_eq (s % 8) 0 (fun q1 => h0 (fun z => by rcases z with z | ⟨z, _, _⟩; exact q z; exact z q1)) (fun q1 => And.intro (by decide) ?_)
  refine pk_le N (s / 8) (fun q2 => h0 (fun z => by rcases z with z | ⟨_, z, _⟩; exact q z; omega)) (fun q2 => ?_)
  have ck : (nI (s / 8)).toNatClampNeg = s / 8 := nI_clamp (by omega)
  refine ⟨by decide, by decide, vp_in_nI (by omega) (by omega), ?_⟩
  obtain ⟨f2, l1, l2, _⟩ := da_cok_v hc q2
  rw [ck, f2]
  refine pk_le (da_L ya_wlen (s / 8)) (s % 8) (fun q3 => h0 (fun z => by rcases z with z | ⟨_, _, z⟩; exact q z; omega)) (fun q3 => h1 (Or.inr ⟨q1, q2, q3⟩))
end
/-! the trie -/
def da_dp (N : Nat) (L : Nat → Nat) (B : Nat → Nat → Nat) (nd : Nat → Nat → Nat) (u c u' : Nat) : Prop := ∃ k j, k < N ∧ j + 1 < L k ∧ u = nd k j ∧ B k j = c ∧ u' = nd k (j + 1)
def da_en (N : Nat) (L : Nat → Nat) (B : Nat → Nat → Nat) (nd : Nat → Nat → Nat) (u c k : Nat) : Prop := k < N ∧ u = nd k (L k - 1) ∧ B k (L k - 1) = c
def da_tri (N : Nat) (L : Nat → Nat) (B : Nat → Nat → Nat) (nd : Nat → Nat → Nat) (nc : Nat) (nx we : Nat → Int32) : Prop :=
  da_ndok N L B nd ∧ 1 ≤ nc ∧ nc ≤ 57 ∧ (∀ k j, k < N → j < L k → nd k j < nc) ∧ (∀ u, u < nc → ∃ k j, k < N ∧ j < L k ∧ u = nd k j) ∧
  (∀ k j, k < N → j + 1 < L k → nx (nd k j * 2 + B k j) = nI (nd k (j + 1))) ∧
  (∀ s, s < 128 → nx s = -1 ∨ ∃ k j, k < N ∧ j + 1 < L k ∧ s = nd k j * 2 + B k j) ∧
  (∀ k, k < N → we (nd k (L k - 1) * 2 + B k (L k - 1)) = nI k) ∧
  (∀ s, s < 128 → we s = -1 ∨ ∃ k, k < N ∧ s = nd k (L k - 1) * 2 + B k (L k - 1))
section
variable {N : Nat} {L : Nat → Nat} {B : Nat → Nat → Nat} {nd : Nat → Nat → Nat} {nc : Nat} {nx we : Nat → Int32}
theorem da_tri_nx (hk : da_ok N L B) (h : da_tri N L B nd nc nx we) {u c : Nat} (hu : u < nc) (hc : c < 2) : (nx (u * 2 + c) = -1 ∧ ∀ u', ¬ da_dp N L B nd u c u') ∨ ∃ u', u' < nc ∧ nx (u * 2 + c) = nI u' ∧ da_dp N L B nd u c u' := by
  obtain ⟨_, _, h3, h4, _, h6, h7, _, _⟩ := h
  rcases h7 (u * 2 + c) (by omega) with z | ⟨k, j, a, b, e⟩
  · refine Or.inl ⟨z, ?_⟩
    rintro u' ⟨k, j, a, b, d, f, g⟩
    have := h6 k j a b
    rw [← d, f, z] at this
    exact da_n1 _ (by have := h4 k (j + 1) a (by omega); omega) this.symm
  · have hB := hk.2.2.1 k j
    have e1 : u = nd k j := by omega
    have e2 : c = B k j := by omega
    refine Or.inr ⟨nd k (j + 1), h4 k (j + 1) a (by omega), by rw [e]; exact h6 k j a b, k, j, a, b, e1, e2.symm, rfl⟩
theorem da_tri_we (hk : da_ok N L B) (h : da_tri N L B nd nc nx we) {u c : Nat} (hu : u < nc) (hc : c < 2) : (we (u * 2 + c) = -1 ∧ ∀ k, ¬ da_en N L B nd u c k) ∨ ∃ k, k < N ∧ we (u * 2 + c) = nI k ∧ da_en N L B nd u c k := by
  obtain ⟨_, _, h3, h4, _, _, _, h8, h9⟩ := h
  rcases h9 (u * 2 + c) (by omega) with z | ⟨k, a, e⟩
  · refine Or.inl ⟨z, ?_⟩
    rintro k ⟨a, d, f⟩
    have := h8 k a
    rw [← d, f, z] at this
    exact da_n1 _ (by have := hk.1; omega) this.symm
  · have hB := hk.2.2.1 k (L k - 1)
    have e1 : u = nd k (L k - 1) := by omega
    have e2 : c = B k (L k - 1) := by omega
    refine Or.inr ⟨k, a, by rw [e]; exact h8 k a, a, e1, e2.symm⟩
theorem da_xt_iff (hk : da_ok N L B) {u c u' : Nat} : da_xt N L B nd u c u' ↔ da_dp N L B nd u c u' ∨ (u' = 0 ∧ ∃ k, da_en N L B nd u c k) := by
  constructor
  · rintro ⟨k, j, a, b, d, e, f⟩
    rcases f with ⟨f1, f2⟩ | ⟨f1, f2⟩
    · have : j = L k - 1 := by omega
      subst this
      exact Or.inr ⟨f2, k, a, d, e⟩
    · exact Or.inl ⟨k, j, a, by omega, d, e, f2⟩
  · rintro (⟨k, j, a, b, d, e, f⟩ | ⟨e0, k, a, d, e⟩)
    · exact ⟨k, j, a, by omega, d, e, Or.inr ⟨by omega, f⟩⟩
    · have := hk.2.1 k a
      exact ⟨k, L k - 1, a, by omega, d, e, Or.inl ⟨by omega, e0⟩⟩
def da_x1 (N : Nat) (L : Nat → Nat) (B : Nat → Nat → Nat) (nd : Nat → Nat → Nat) (u c ch u' : Nat) : Prop := (ch = 0 ∧ da_dp N L B nd u c u') ∨ (ch ≠ 0 ∧ u' = 0 ∧ ∃ k, da_en N L B nd u c k)
def da_x2 (N : Nat) (L : Nat → Nat) (B : Nat → Nat → Nat) (nd : Nat → Nat → Nat) (u v mv u' v' : Nat) : Prop := da_x1 N L B nd u (mv / 4) (mv / 2 % 2) u' ∧ da_x1 N L B nd v (mv / 4) (mv % 2) v'
theorem da_x1_xt (hk : da_ok N L B) {u c ch u' : Nat} (h : da_x1 N L B nd u c ch u') : da_xt N L B nd u c u' := by
  rcases h with ⟨_, h⟩ | ⟨_, h1, h2⟩
  · exact (da_xt_iff hk).mpr (Or.inl h)
  · exact (da_xt_iff hk).mpr (Or.inr ⟨h1, h2⟩)
theorem da_x2_ex (hk : da_ok N L B) {u v c u' v' : Nat} (h1 : da_xt N L B nd u c u') (h2 : da_xt N L B nd v c v') : ∃ ch, ch < 4 ∧ da_x2 N L B nd u v (c * 4 + ch) u' v' := by
  have hc := da_xt_b hk h1
  have key : ∀ {u u'}, da_xt N L B nd u c u' → ∃ ch, ch < 2 ∧ da_x1 N L B nd u c ch u' := by
    intro u u' h
    rcases (da_xt_iff hk).mp h with h | h
    · exact ⟨0, by omega, Or.inl ⟨rfl, h⟩⟩
    · exact ⟨1, by omega, Or.inr ⟨by omega, h⟩⟩
  obtain ⟨a, ha, ha'⟩ := key h1
  obtain ⟨b, hb, hb'⟩ := key h2
  refine ⟨a * 2 + b, by omega, ?_, ?_⟩
  · rw [show (c * 4 + (a * 2 + b)) / 4 = c by omega, show (c * 4 + (a * 2 + b)) / 2 % 2 = a by omega]; exact ha'
  · rw [show (c * 4 + (a * 2 + b)) / 4 = c by omega, show (c * 4 + (a * 2 + b)) % 2 = b by omega]; exact hb'
end
section
variable {xf_maxWords xf_maxLength xf_textCapacity xf_wordCount xf_nodeCount xf_found xf_codeDelay xf_witnessSize xf_queueCount xf_textSize xf_decoderOn xf_decoderDone xf_readSize xf_settledAt xf_settledSize : Int32} {xa_wordCodes xa_wordLengths xa_nextNode xa_wordEnd xa_wordDelays xa_witness xa_witnessWords xa_witnessCounts xa_witnessRest xa_pairSeen xa_pairHeight xa_queuePair xa_queueFrom xa_queueDepth xa_queueGroup xa_queueBit xa_text xa_ways xa_openNode xa_lastWord xa_wordsTo xa_settled : Nat → Int32} {xa_startNodes : Nat → Int64}
theorem xw_wordBit {N k j : Nat} {post : Int32 → Prop} (hc : da_cok N xa_wordCodes xa_wordLengths) (hk : k < N) (hj : j < da_L xa_wordLengths k) (h : post (nI (da_B xa_wordCodes xa_wordLengths k j))) : wpX_wordBit post (xf_maxWords, xf_maxLength, xf_textCapacity, xf_wordCount, xf_nodeCount, xf_found, xf_codeDelay, xf_witnessSize, xf_queueCount, xf_textSize, xf_decoderOn, xf_decoderDone, xf_readSize, xf_settledAt, xf_settledSize, xa_wordCodes, xa_wordLengths, xa_nextNode, xa_wordEnd, xa_wordDelays, xa_witness, xa_witnessWords, xa_witnessCounts, xa_witnessRest, xa_startNodes, xa_pairSeen, xa_pairHeight, xa_queuePair, xa_queueFrom, xa_queueDepth, xa_queueGroup, xa_queueBit, xa_text, xa_ways, xa_openNode, xa_lastWord, xa_wordsTo, xa_settled) (nI k) (nI j) := by
  have hN := hc.1
  have ik : vp_in (nI k) 8 := vp_in_nI (by omega) (by omega)
  have ck : (nI k).toNatClampNeg = k := nI_clamp (by omega)
  refine And.intro ik (And.intro ik ?_)
  rw [ck, da_bitE hc hk hj]
  exact h
theorem xw_step {N : Nat} {L : Nat → Nat} {B : Nat → Nat → Nat} {nd : Nat → Nat → Nat} {nc : Nat} {post : Int32 → Prop} (hk : da_ok N L B) (ht : da_tri N L B nd nc xa_nextNode xa_wordEnd) {u c ch : Nat} (hu : u < nc) (hc : c < 2) (hch : ch < 2) (h : ∀ r, ((r = -1 ∧ ∀ u', ¬ da_x1 N L B nd u c ch u') ∨ ∃ u', u' < nc ∧ r = nI u' ∧ da_x1 N L B nd u c ch u') → post r) : wpX_step post (xf_maxWords, xf_maxLength, xf_textCapacity, xf_wordCount, xf_nodeCount, xf_found, xf_codeDelay, xf_witnessSize, xf_queueCount, xf_textSize, xf_decoderOn, xf_decoderDone, xf_readSize, xf_settledAt, xf_settledSize, xa_wordCodes, xa_wordLengths, xa_nextNode, xa_wordEnd, xa_wordDelays, xa_witness, xa_witnessWords, xa_witnessCounts, xa_witnessRest, xa_startNodes, xa_pairSeen, xa_pairHeight, xa_queuePair, xa_queueFrom, xa_queueDepth, xa_queueGroup, xa_queueBit, xa_text, xa_ways, xa_openNode, xa_lastWord, xa_wordsTo, xa_settled) (nI u) (nI c) (nI ch) := by
  have h57 := ht.2.2.1
  have e1 : nI u * 2 + nI c = nI (u * 2 + c) := by rw [show (2 : Int32) = nI 2 from rfl, pk_mul, nI_add]
  have i1 : vp_in (nI (u * 2 + c)) 128 := vp_in_nI (by omega) (by omega)
  have c1 : (nI (u * 2 + c)).toNatClampNeg = u * 2 + c := nI_clamp (by omega)
  refine nm_r e1 (pk_eq ch 0 (fun q => And.intro i1 ?_) (fun q => And.intro i1 ?_))
  · rw [c1]
    rcases da_tri_nx hk ht hu hc with ⟨z1, z2⟩ | ⟨u', z1, z2, z3⟩
    · rw [z1]
      refine h _ (Or.inl ⟨rfl, fun u' w => ?_⟩)
      rcases w with ⟨_, w⟩ | ⟨w, _⟩
      · exact z2 u' w
      · exact w q
    · rw [z2]
      exact h _ (Or.inr ⟨u', z1, rfl, Or.inl ⟨q, z3⟩⟩)
  · rw [c1]
    rcases da_tri_we hk ht hu hc with ⟨z1, z2⟩ | ⟨k, z1, z2, z3⟩
    · rw [z1]
      refine br_t da_neg1 (h _ (Or.inl ⟨rfl, fun u' w => ?_⟩))
      rcases w with ⟨w, _⟩ | ⟨_, _, k, w⟩
      · exact q w
      · exact z2 k w
    · rw [z2]
      refine br_f (nI_pos (by have := hk.1; omega)) (h _ (Or.inr ⟨0, by omega, rfl, Or.inr ⟨q, rfl, k, z3⟩⟩))
theorem xw_successor {N : Nat} {L : Nat → Nat} {B : Nat → Nat → Nat} {nd : Nat → Nat → Nat} {nc : Nat} {post : Int32 → Prop} (hk : da_ok N L B) (ht : da_tri N L B nd nc xa_nextNode xa_wordEnd) {u v mv : Nat} (hu : u < nc) (hv : v < nc) (hm : mv < 8) (h : ∀ r, ((r = -1 ∧ ∀ u' v', ¬ da_x2 N L B nd u v mv u' v') ∨ ∃ u' v', u' < nc ∧ v' < nc ∧ r = nI (u' * 64 + v') ∧ da_x2 N L B nd u v mv u' v') → post r) : wpX_successor post (xf_maxWords, xf_maxLength, xf_textCapacity, xf_wordCount, xf_nodeCount, xf_found, xf_codeDelay, xf_witnessSize, xf_queueCount, xf_textSize, xf_decoderOn, xf_decoderDone, xf_readSize, xf_settledAt, xf_settledSize, xa_wordCodes, xa_wordLengths, xa_nextNode, xa_wordEnd, xa_wordDelays, xa_witness, xa_witnessWords, xa_witnessCounts, xa_witnessRest, xa_startNodes, xa_pairSeen, xa_pairHeight, xa_queuePair, xa_queueFrom, xa_queueDepth, xa_queueGroup, xa_queueBit, xa_text, xa_ways, xa_openNode, xa_lastWord, xa_wordsTo, xa_settled) (nI (u * 64 + v)) (nI mv) := by
  have h57 := ht.2.2.1
  have e1 : nI mv >>> ((2 : Int32) &&& 31) = nI (mv / 4) := pk_shrN (by omega) _ 2 (by decide)
  have e2 : nI mv >>> ((1 : Int32) &&& 31) &&& 1 = nI (mv / 2 % 2) := by
    rw [pk_shrN (by omega) _ 1 (by decide), da_and1 (by omega)]
  have e3 : nI mv &&& 1 = nI (mv % 2) := da_and1 (by omega)
  have e4 : nI (u * 64 + v) >>> ((6 : Int32) &&& 31) = nI u := by
    rw [pk_shrN (by omega) _ 6 (by decide)]; exact congrArg nI (by omega)
  have e5 : nI (u * 64 + v) &&& 63 = nI v := by
    rw [pk_andN (by omega) 6 (by decide)]; exact congrArg nI (by omega)
  refine nm_r e1 ?_
  rw [e2, e3, e4, e5]
  refine xw_step hk ht hu (by omega) (by omega) (fun r1 h1 => ?_)
  refine xw_step hk ht hv (by omega) (by omega) (fun r2 h2 => ?_)
  rcases h1 with ⟨a1, a2⟩ | ⟨u', a1, a2, a3⟩
  · rw [a1]
    exact br_t da_neg1 (h _ (Or.inl ⟨rfl, fun u' v' w => a2 u' w.1⟩))
  · rw [a2]
    refine br_f (nI_pos (by omega)) ?_
    rcases h2 with ⟨b1, b2⟩ | ⟨v', b1, b2, b3⟩
    · rw [b1]
      exact br_f (by decide) (h _ (Or.inl ⟨rfl, fun u' v' w => b2 v' w.2⟩))
    · rw [b2]
      refine br_t (nI_pos' (by omega)) ?_
      rw [show (64 : Int32) = nI 64 from rfl, pk_mul, nI_add]
      exact h _ (Or.inr ⟨u', v', a1, b1, rfl, a3, b3⟩)
end
end
section
/-! building the trie -/
def da_tb (L : Nat → Nat) (B : Nat → Nat → Nat) (I : Nat → Nat → Prop) (K b : Nat) (nd : Nat → Nat → Nat) (nc : Nat) (nx we : Nat → Int32) : Prop :=
  (∀ k, nd k 0 = 0) ∧
  (∀ k j k' j', I k j → I k' j' → (nd k j = nd k' j' ↔ j = j' ∧ ∀ x, x < j → B k x = B k' x)) ∧
  1 ≤ nc ∧ nc ≤ b ∧ (∀ k j, I k j → nd k j < nc) ∧ (∀ u, u < nc → u = 0 ∨ ∃ k j, I k j ∧ u = nd k j) ∧
  (∀ k j, I k (j + 1) → nx (nd k j * 2 + B k j) = nI (nd k (j + 1))) ∧
  (∀ s, s < 128 → nx s = -1 ∨ ∃ k j, I k (j + 1) ∧ s = nd k j * 2 + B k j) ∧
  (∀ k, k < K → we (nd k (L k - 1) * 2 + B k (L k - 1)) = nI k) ∧
  (∀ s, s < 128 → we s = -1 ∨ ∃ k, k < K ∧ s = nd k (L k - 1) * 2 + B k (L k - 1))
def da_in (L : Nat → Nat) (K J k j : Nat) : Prop := (k < K ∧ j < L k) ∨ (k = K ∧ j ≤ J)
def da_iq (L : Nat → Nat) (K k j : Nat) : Prop := k < K ∧ j < L k
section
variable {N : Nat} {L : Nat → Nat} {B : Nat → Nat → Nat}
theorem da_tb0 {nx we : Nat → Int32} (h1 : ∀ s, s < 128 → nx s = -1) (h2 : ∀ s, s < 128 → we s = -1) : da_tb L B (da_iq L 0) 0 1 (fun _ _ => 0) 1 nx we := by
  refine ⟨fun _ => rfl, ?_, Nat.le_refl _, Nat.le_refl _, ?_, ?_, ?_, fun s hs => Or.inl (h1 s hs), ?_, fun s hs => Or.inl (h2 s hs)⟩
  · rintro k j k' j' ⟨h, _⟩; omega
  · rintro k j ⟨h, _⟩; omega
  · intro u hu; exact Or.inl (by omega)
  · rintro k j ⟨h, _⟩; omega
  · intro k h; omega
theorem da_tb_enter (hk : da_ok N L B) {K b : Nat} {nd : Nat → Nat → Nat} {nc : Nat} {nx we : Nat → Int32} (hK : K < N) (h : da_tb L B (da_iq L K) K b nd nc nx we) : da_tb L B (da_in L K 0) K b nd nc nx we := by
  obtain ⟨h1, h2, h3, h4, h5, h6, h7, h8, h9, h10⟩ := h
  have z : ∀ k j, da_iq L K k j → (nd k j = 0 ↔ j = 0) := by
    intro k j q
    have := h2 k j k 0 q ⟨q.1, by have := q.2; omega⟩
    rw [h1] at this
    exact ⟨fun w => (this.mp w).1, fun w => by rw [w]; exact h1 k⟩
  have up : ∀ k j, da_in L K 0 k (j + 1) → da_iq L K k (j + 1) := by
    rintro k j (q | ⟨_, q⟩)
    · exact q
    · omega
  refine ⟨h1, ?_, h3, h4, ?_, ?_, fun k j q => h7 k j (up k j q), ?_, h9, h10⟩
  · intro k j k' j' q q'
    rcases q with q | ⟨e, q⟩
    · rcases q' with q' | ⟨e', q'⟩
      · exact h2 k j k' j' q q'
      · have : j' = 0 := by omega
        subst this
        rw [h1 k', z k j q]
        exact ⟨fun w => ⟨w, fun x hx => by omega⟩, fun w => w.1⟩
    · have : j = 0 := by omega
      subst this
      rw [h1 k]
      rcases q' with q' | ⟨e', q'⟩
      · have := z k' j' q'
        exact ⟨fun w => ⟨(this.mp w.symm).symm, fun x hx => by omega⟩, fun w => (this.mpr w.1.symm).symm⟩
      · have : j' = 0 := by omega
        subst this
        rw [h1 k']
        exact ⟨fun w => ⟨rfl, fun x hx => by omega⟩, fun w => rfl⟩
  · intro k j q
    rcases q with q | ⟨e, q⟩
    · exact h5 k j q
    · have : j = 0 := by omega
      subst this
      rw [h1]; omega
  · intro u hu
    rcases h6 u hu with q | ⟨k, j, q, e⟩
    · exact Or.inl q
    · exact Or.inr ⟨k, j, Or.inl q, e⟩
  · intro s hs
    rcases h8 s hs with q | ⟨k, j, q, e⟩
    · exact Or.inl q
    · exact Or.inr ⟨k, j, Or.inl q, e⟩
theorem da_e_sym {a b j j' : Nat} {f g : Nat → Nat} (h : a = b ↔ j = j' ∧ ∀ x, x < j → f x = g x) : b = a ↔ j' = j ∧ ∀ x, x < j' → g x = f x := by
  constructor
  · intro e
    obtain ⟨p, q⟩ := h.mp e.symm
    exact ⟨p.symm, fun x hx => (q x (by omega)).symm⟩
  · rintro ⟨p, q⟩
    exact (h.mpr ⟨p.symm, fun x hx => (q x (by omega)).symm⟩).symm
def da_nset (nd : Nat → Nat → Nat) (K J v : Nat) : Nat → Nat → Nat := fun a b => if a = K ∧ b = J then v else nd a b
theorem da_nset_s {nd : Nat → Nat → Nat} {K J v : Nat} : da_nset nd K J v K J = v := if_pos ⟨rfl, rfl⟩
theorem da_nset_n {nd : Nat → Nat → Nat} {K J v a b : Nat} (h : ¬ (a = K ∧ b = J)) : da_nset nd K J v a b = nd a b := if_neg h
theorem da_in_dn {K J k j : Nat} (h : da_in L K J k (j + 1)) : da_in L K J k j := by
  rcases h with ⟨a, b⟩ | ⟨a, b⟩
  · exact Or.inl ⟨a, by omega⟩
  · exact Or.inr ⟨a, by omega⟩
theorem da_in_new {K J k j : Nat} (h : da_in L K (J + 1) k j) : (k = K ∧ j = J + 1) ∨ (da_in L K J k j ∧ ¬ (k = K ∧ j = J + 1)) := by
  rcases h with ⟨a, b⟩ | ⟨a, b⟩
  · exact Or.inr ⟨Or.inl ⟨a, b⟩, by omega⟩
  · rcases Nat.lt_or_ge j (J + 1) with q | q
    · exact Or.inr ⟨Or.inr ⟨a, by omega⟩, by omega⟩
    · exact Or.inl ⟨a, by omega⟩
theorem da_in_up {K J k j : Nat} (h : da_in L K J k j) : da_in L K (J + 1) k j := by
  rcases h with ⟨a, b⟩ | ⟨a, b⟩
  · exact Or.inl ⟨a, b⟩
  · exact Or.inr ⟨a, by omega⟩
theorem da_in_no {K J k j : Nat} (h : da_in L K J k j) : ¬ (k = K ∧ j = J + 1) := by
  rcases h with ⟨a, b⟩ | ⟨a, b⟩ <;> omega
theorem da_tb_go1 (hk : da_ok N L B) {K J b : Nat} {nd : Nat → Nat → Nat} {nc : Nat} {nx we : Nat → Int32} (hK : K < N) (hJ : J + 1 < L K) (hb : b ≤ 57) (h : da_tb L B (da_in L K J) K b nd nc nx we) (hx : ¬ nx (nd K J * 2 + B K J) = -1) :
    ∃ v, v < nc ∧ nx (nd K J * 2 + B K J) = nI v ∧ da_tb L B (da_in L K (J + 1)) K b (da_nset nd K (J + 1) v) nc nx we := by
  obtain ⟨h1, h2, h3, h4, h5, h6, h7, h8, h9, h10⟩ := h
  have iK : da_in L K J K J := Or.inr ⟨rfl, Nat.le_refl _⟩
  have hB := hk.2.2.1 K J
  have lt := h5 K J iK
  rcases h8 (nd K J * 2 + B K J) (by omega) with q | ⟨k, j, q, e⟩
  · exact absurd q hx
  have hB' := hk.2.2.1 k j
  have e1 : nd k j = nd K J := by omega
  have e2 : B k j = B K J := by omega
  obtain ⟨e3, e4⟩ := (h2 k j K J (da_in_dn q) iK).mp e1
  subst e3
  have hkK : k < K := by
    rcases q with ⟨a, _⟩ | ⟨_, a⟩
    · exact a
    · omega
  have agree : ∀ x, x < j + 1 → B k x = B K x := by
    intro x hx
    rcases Nat.lt_or_ge x j with z | z
    · exact e4 x z
    · have : x = j := by omega
      rw [this]; exact e2
  have val := h7 k j q
  rw [e1, e2] at val
  have old : ∀ {a b}, da_in L K j a b → da_nset nd K (j + 1) (nd k (j + 1)) a b = nd a b := fun q => da_nset_n (da_in_no q)
  have cross : ∀ a b, da_in L K j a b → (nd k (j + 1) = nd a b ↔ j + 1 = b ∧ ∀ x, x < j + 1 → B K x = B a x) := by
    intro a b w
    rw [h2 k (j + 1) a b q w]
    constructor
    · rintro ⟨p1, p2⟩
      exact ⟨p1, fun x hx => (agree x hx).symm.trans (p2 x hx)⟩
    · rintro ⟨p1, p2⟩
      exact ⟨p1, fun x hx => (agree x hx).trans (p2 x hx)⟩
  refine ⟨nd k (j + 1), h5 k (j + 1) q, val, fun a => ?_, ?_, h3, h4, ?_, ?_, ?_, ?_, ?_, ?_⟩
  · rw [da_nset_n (by omega)]; exact h1 a
  · intro a b a' b' w w'
    rcases da_in_new w with ⟨rfl, rfl⟩ | ⟨w, _⟩
    · rcases da_in_new w' with ⟨rfl, rfl⟩ | ⟨w', _⟩
      · exact ⟨fun _ => ⟨rfl, fun _ _ => rfl⟩, fun _ => rfl⟩
      · rw [da_nset_s, old w']; exact cross a' b' w'
    · rcases da_in_new w' with ⟨rfl, rfl⟩ | ⟨w', _⟩
      · rw [da_nset_s, old w]; exact da_e_sym (cross a b w)
      · rw [old w, old w']; exact h2 a b a' b' w w'
  · intro a b w
    rcases da_in_new w with ⟨rfl, rfl⟩ | ⟨w, _⟩
    · rw [da_nset_s]; exact h5 k (j + 1) q
    · rw [old w]; exact h5 a b w
  · intro u hu
    rcases h6 u hu with z | ⟨a, b, z, e⟩
    · exact Or.inl z
    · exact Or.inr ⟨a, b, da_in_up z, by rw [old z]; exact e⟩
  · intro a b w
    rcases da_in_new w with ⟨rfl, e0⟩ | ⟨w, _⟩
    · have : b = j := by omega
      subst this
      rw [da_nset_s, old iK]; exact val
    · rw [old w, old (da_in_dn w)]; exact h7 a b w
  · intro s hs
    rcases h8 s hs with z | ⟨a, b, z, e⟩
    · exact Or.inl z
    · exact Or.inr ⟨a, b, da_in_up z, by rw [old (da_in_dn z)]; exact e⟩
  · intro a ha
    rw [da_nset_n (by omega)]; exact h9 a ha
  · intro s hs
    rcases h10 s hs with z | ⟨a, z, e⟩
    · exact Or.inl z
    · exact Or.inr ⟨a, z, by rw [da_nset_n (by omega)]; exact e⟩
theorem da_tb_go2 (hk : da_ok N L B) {K J b : Nat} {nd : Nat → Nat → Nat} {nc : Nat} {nx we : Nat → Int32} (hK : K < N) (hJ : J + 1 < L K) (hb : b ≤ 57) (h : da_tb L B (da_in L K J) K b nd nc nx we) (hx : nx (nd K J * 2 + B K J) = -1) :
    da_tb L B (da_in L K (J + 1)) K (b + 1) (da_nset nd K (J + 1) nc) (nc + 1) (upd nx (nd K J * 2 + B K J) (nI nc)) we := by
  obtain ⟨h1, h2, h3, h4, h5, h6, h7, h8, h9, h10⟩ := h
  have iK : da_in L K J K J := Or.inr ⟨rfl, Nat.le_refl _⟩
  have hB := hk.2.2.1 K J
  have old : ∀ {a b}, da_in L K J a b → da_nset nd K (J + 1) nc a b = nd a b := fun q => da_nset_n (da_in_no q)
  have nsl : ∀ a b, da_in L K J a (b + 1) → nd a b * 2 + B a b ≠ nd K J * 2 + B K J := by
    intro a b w e
    have := h7 a b w
    rw [e, hx] at this
    exact da_n1 _ (by have := h5 a (b + 1) w; omega) this.symm
  have cross : ∀ a b, da_in L K J a b → (nc = nd a b ↔ J + 1 = b ∧ ∀ x, x < J + 1 → B K x = B a x) := by
    intro a b w
    constructor
    · intro e
      have := h5 a b w
      omega
    · rintro ⟨p1, p2⟩
      exfalso
      subst p1
      have e1 : nd a J = nd K J := (h2 a J K J (da_in_dn w) iK).mpr ⟨rfl, fun x hx => (p2 x (by omega)).symm⟩
      refine nsl a J w ?_
      rw [e1, p2 J (by omega)]
  refine ⟨fun a => ?_, ?_, by omega, by omega, ?_, ?_, ?_, ?_, ?_, ?_⟩
  · rw [da_nset_n (by omega)]; exact h1 a
  · intro a b a' b' w w'
    rcases da_in_new w with ⟨rfl, rfl⟩ | ⟨w, _⟩
    · rcases da_in_new w' with ⟨rfl, rfl⟩ | ⟨w', _⟩
      · exact ⟨fun _ => ⟨rfl, fun _ _ => rfl⟩, fun _ => rfl⟩
      · rw [da_nset_s, old w']; exact cross a' b' w'
    · rcases da_in_new w' with ⟨rfl, rfl⟩ | ⟨w', _⟩
      · rw [da_nset_s, old w]; exact da_e_sym (cross a b w)
      · rw [old w, old w']; exact h2 a b a' b' w w'
  · intro a b w
    rcases da_in_new w with ⟨rfl, rfl⟩ | ⟨w, _⟩
    · rw [da_nset_s]; omega
    · rw [old w]; have := h5 a b w; omega
  · intro u hu
    rcases Nat.lt_or_ge u nc with z | z
    · rcases h6 u z with z | ⟨a, b, z, e⟩
      · exact Or.inl z
      · exact Or.inr ⟨a, b, da_in_up z, by rw [old z]; exact e⟩
    · exact Or.inr ⟨K, J + 1, Or.inr ⟨rfl, Nat.le_refl _⟩, by rw [da_nset_s]; omega⟩
  · intro a b w
    rcases da_in_new w with ⟨rfl, e0⟩ | ⟨w, _⟩
    · have : b = J := by omega
      subst this
      rw [da_nset_s, old iK, pk_us]
    · rw [old w, old (da_in_dn w), pk_un (nsl a b w)]; exact h7 a b w
  · intro s hs
    by_cases e0 : s = nd K J * 2 + B K J
    · exact Or.inr ⟨K, J, Or.inr ⟨rfl, Nat.le_refl _⟩, by rw [old iK]; exact e0⟩
    · rw [pk_un e0]
      rcases h8 s hs with z | ⟨a, b, z, e⟩
      · exact Or.inl z
      · exact Or.inr ⟨a, b, da_in_up z, by rw [old (da_in_dn z)]; exact e⟩
  · intro a ha
    rw [da_nset_n (by omega)]; exact h9 a ha
  · intro s hs
    rcases h10 s hs with z | ⟨a, z, e⟩
    · exact Or.inl z
    · exact Or.inr ⟨a, z, by rw [da_nset_n (by omega)]; exact e⟩
theorem da_tb_fin (hk : da_ok N L B) {K b : Nat} {nd : Nat → Nat → Nat} {nc : Nat} {nx we : Nat → Int32} (hK : K < N) (h : da_tb L B (da_in L K (L K - 1)) K b nd nc nx we) :
    da_tb L B (da_iq L (K + 1)) (K + 1) b nd nc nx (upd we (nd K (L K - 1) * 2 + B K (L K - 1)) (nI K)) := by
  obtain ⟨h1, h2, h3, h4, h5, h6, h7, h8, h9, h10⟩ := h
  have hL := hk.2.1 K hK
  have to : ∀ {k j}, da_iq L (K + 1) k j → da_in L K (L K - 1) k j := by
    rintro k j ⟨a, b⟩
    rcases Nat.lt_or_ge k K with z | z
    · exact Or.inl ⟨z, b⟩
    · have : k = K := by omega
      subst this
      exact Or.inr ⟨rfl, by omega⟩
  have fro : ∀ {k j}, da_in L K (L K - 1) k j → da_iq L (K + 1) k j := by
    rintro k j (⟨a, b⟩ | ⟨a, b⟩)
    · exact ⟨by omega, b⟩
    · subst a; exact ⟨by omega, by omega⟩
  refine ⟨h1, fun k j k' j' q q' => h2 k j k' j' (to q) (to q'), h3, h4, fun k j q => h5 k j (to q), ?_, fun k j q => h7 k j (to q), ?_, ?_, ?_⟩
  · intro u hu
    rcases h6 u hu with q | ⟨k, j, q, e⟩
    · exact Or.inl q
    · exact Or.inr ⟨k, j, fro q, e⟩
  · intro s hs
    rcases h8 s hs with q | ⟨k, j, q, e⟩
    · exact Or.inl q
    · exact Or.inr ⟨k, j, fro q, e⟩
  · intro k hkK
    by_cases e0 : k = K
    · subst e0; exact pk_us
    · have hkN : k < N := by omega
      have hLk := hk.2.1 k hkN
      rw [pk_un]
      · exact h9 k (by omega)
      · intro e
        have b1 := hk.2.2.1 k (L k - 1)
        have b2 := hk.2.2.1 K (L K - 1)
        have e1 : nd k (L k - 1) = nd K (L K - 1) := by omega
        have e2 : B k (L k - 1) = B K (L K - 1) := by omega
        obtain ⟨p1, p2⟩ := (h2 k (L k - 1) K (L K - 1) (Or.inl ⟨by omega, by omega⟩) (Or.inr ⟨rfl, Nat.le_refl _⟩)).mp e1
        refine e0 (hk.2.2.2 k K hkN hK (by omega) (fun x hx => ?_))
        rcases Nat.lt_or_ge x (L k - 1) with z | z
        · exact p2 x z
        · have : x = L k - 1 := by omega
          rw [this, e2, p1]
  · intro s hs
    by_cases e0 : s = nd K (L K - 1) * 2 + B K (L K - 1)
    · exact Or.inr ⟨K, by omega, e0⟩
    · rw [pk_un e0]
      rcases h10 s hs with q | ⟨k, q, e⟩
      · exact Or.inl q
      · exact Or.inr ⟨k, by omega, e⟩
theorem da_tb_tri (hk : da_ok N L B) (hN : 0 < N) {b : Nat} {nd : Nat → Nat → Nat} {nc : Nat} {nx we : Nat → Int32} (hb : b ≤ 57) (h : da_tb L B (da_iq L N) N b nd nc nx we) : da_tri N L B nd nc nx we := by
  obtain ⟨h1, h2, h3, h4, h5, h6, h7, h8, h9, h10⟩ := h
  refine ⟨⟨h1, fun k j k' j' a b c d => h2 k j k' j' ⟨a, b⟩ ⟨c, d⟩⟩, h3, by omega, fun k j a b => h5 k j ⟨a, b⟩, ?_, fun k j a b => h7 k j ⟨a, b⟩, ?_, h9, h10⟩
  · intro u hu
    rcases h6 u hu with q | ⟨k, j, q, e⟩
    · exact ⟨0, 0, hN, (hk.2.1 0 hN).1, by rw [h1]; exact q⟩
    · exact ⟨k, j, q.1, q.2, e⟩
  · intro s hs
    rcases h8 s hs with q | ⟨k, j, q, e⟩
    · exact Or.inl q
    · exact Or.inr ⟨k, j, q.1, q.2, e⟩
end
section
variable {xf_maxWords xf_maxLength xf_textCapacity xf_wordCount xf_nodeCount xf_found xf_codeDelay xf_witnessSize xf_queueCount xf_textSize xf_decoderOn xf_decoderDone xf_readSize xf_settledAt xf_settledSize : Int32} {xa_wordCodes xa_wordLengths xa_nextNode xa_wordEnd xa_wordDelays xa_witness xa_witnessWords xa_witnessCounts xa_witnessRest xa_pairSeen xa_pairHeight xa_queuePair xa_queueFrom xa_queueDepth xa_queueGroup xa_queueBit xa_text xa_ways xa_openNode xa_lastWord xa_wordsTo xa_settled : Nat → Int32} {xa_startNodes : Nat → Int64}
theorem xw_ins14 {N K : Nat} {post : SX → Prop} (hc : da_cok N xa_wordCodes xa_wordLengths) (hK : K < N)
    (h : ∀ nd nc nx we, da_tb (da_L xa_wordLengths) (da_B xa_wordCodes xa_wordLengths) (da_iq (da_L xa_wordLengths) (K + 1)) (K + 1) (1 + 7 * (K + 1)) nd nc nx we → post (xf_maxWords, xf_maxLength, xf_textCapacity, xf_wordCount, nI nc, xf_found, xf_codeDelay, xf_witnessSize, xf_queueCount, xf_textSize, xf_decoderOn, xf_decoderDone, xf_readSize, xf_settledAt, xf_settledSize, xa_wordCodes, xa_wordLengths, nx, we, xa_wordDelays, xa_witness, xa_witnessWords, xa_witnessCounts, xa_witnessRest, xa_startNodes, xa_pairSeen, xa_pairHeight, xa_queuePair, xa_queueFrom, xa_queueDepth, xa_queueGroup, xa_queueBit, xa_text, xa_ways, xa_openNode, xa_lastWord, xa_wordsTo, xa_settled)) :
    ∀ f J nd nc nx, J ≤ da_L xa_wordLengths K - 1 → da_L xa_wordLengths K - 1 - J < f → da_tb (da_L xa_wordLengths) (da_B xa_wordCodes xa_wordLengths) (da_in (da_L xa_wordLengths) K J) K (1 + 7 * K + J) nd nc nx xa_wordEnd →
      wX_insertWord_14 post (nI K) (nI (da_L xa_wordLengths K - 1)) xf_maxWords xf_maxLength xf_textCapacity xf_wordCount xf_found xf_codeDelay xf_witnessSize xf_queueCount xf_textSize xf_decoderOn xf_decoderDone xf_readSize xf_settledAt xf_settledSize f (nI (nd K J)) (nI J) (nI nc) xa_wordCodes xa_wordLengths nx xa_wordEnd xa_wordDelays xa_witness xa_witnessWords xa_witnessCounts xa_witnessRest xa_startNodes xa_pairSeen xa_pairHeight xa_queuePair xa_queueFrom xa_queueDepth xa_queueGroup xa_queueBit xa_text xa_ways xa_openNode xa_lastWord xa_wordsTo xa_settled := by
  have hok := da_cok_ok hc
  have hN := hc.1
  obtain ⟨_, l1, l2, _⟩ := da_cok_v hc hK
  intro f
  induction f with
  | zero => intro J nd nc nx _ h0; omega
  | succ f ih =>
    intro J nd nc nx hJ hf ht
    have hB := hok.2.2.1 K J
    have hnd : nd K J < nc := ht.2.2.2.2.1 K J (Or.inr ⟨rfl, Nat.le_refl _⟩)
    have hnc : nc ≤ 57 := by have := ht.2.2.2.1; omega
    have ix : ∀ J, nI (nd K J) * 2 + nI (da_B xa_wordCodes xa_wordLengths K J) = nI (nd K J * 2 + da_B xa_wordCodes xa_wordLengths K J) := fun J => by
      rw [show (2 : Int32) = nI 2 from rfl, pk_mul, nI_add]
    refine pk_le (da_L xa_wordLengths K - 1) J (fun q => ?_) (fun q => ?_)
    · have : J = da_L xa_wordLengths K - 1 := by omega
      subst this
      refine xw_wordBit hc hK (by omega) ?_
      rw [ix, nI_clamp (by omega)]
      refine ⟨vp_in_nI (by omega) (by omega), nm_e ?_⟩
      have fin := da_tb_fin hok hK ht
      refine h nd nc nx _ ?_
      obtain ⟨a1, a2, a3, a4, a5⟩ := fin
      exact ⟨a1, a2, a3, by omega, a5⟩
    · refine xw_wordBit hc hK (by omega) (nm_r (ix J) ?_)
      have i1 : vp_in (nI (nd K J * 2 + da_B xa_wordCodes xa_wordLengths K J)) 128 := vp_in_nI (by omega) (by omega)
      have c1 : (nI (nd K J * 2 + da_B xa_wordCodes xa_wordLengths K J)).toNatClampNeg = nd K J * 2 + da_B xa_wordCodes xa_wordLengths K J := nI_clamp (by omega)
      refine ⟨i1, ?_⟩
      rw [c1]
      by_cases z : nx (nd K J * 2 + da_B xa_wordCodes xa_wordLengths K J) = -1
      · have g := da_tb_go2 hok hK (by omega) (by omega) ht z
        rw [z]
        refine br_f (by decide) ⟨i1, nm_e (nm_r (nI_1 nc) ⟨i1, nm_r (e' := nI nc) pk_us (nm_r (nI_1 J) ?_)⟩)⟩
        have := ih (J + 1) _ (nc + 1) _ (by omega) (by omega) g
        rw [da_nset_s] at this
        exact this
      · obtain ⟨v, hv, e, g⟩ := da_tb_go1 hok hK (by omega) (by omega) ht z
        rw [e]
        refine br_t (nI_pos' (by omega)) ⟨i1, nm_e (nm_r (nI_1 J) ?_)⟩
        obtain ⟨a1, a2, a3, a4, a5⟩ := g
        have := ih (J + 1) _ nc nx (by omega) (by omega) ⟨a1, a2, a3, by omega, a5⟩
        rw [da_nset_s] at this
        exact this
theorem xw_insertWord {N K nc : Nat} {nd : Nat → Nat → Nat} {post : SX → Prop} (hc : da_cok N xa_wordCodes xa_wordLengths) (hK : K < N)
    (ht : da_tb (da_L xa_wordLengths) (da_B xa_wordCodes xa_wordLengths) (da_iq (da_L xa_wordLengths) K) K (1 + 7 * K) nd nc xa_nextNode xa_wordEnd)
    (h : ∀ nd nc nx we, da_tb (da_L xa_wordLengths) (da_B xa_wordCodes xa_wordLengths) (da_iq (da_L xa_wordLengths) (K + 1)) (K + 1) (1 + 7 * (K + 1)) nd nc nx we → post (xf_maxWords, xf_maxLength, xf_textCapacity, xf_wordCount, nI nc, xf_found, xf_codeDelay, xf_witnessSize, xf_queueCount, xf_textSize, xf_decoderOn, xf_decoderDone, xf_readSize, xf_settledAt, xf_settledSize, xa_wordCodes, xa_wordLengths, nx, we, xa_wordDelays, xa_witness, xa_witnessWords, xa_witnessCounts, xa_witnessRest, xa_startNodes, xa_pairSeen, xa_pairHeight, xa_queuePair, xa_queueFrom, xa_queueDepth, xa_queueGroup, xa_queueBit, xa_text, xa_ways, xa_openNode, xa_lastWord, xa_wordsTo, xa_settled)) :
    wpX_insertWord post (xf_maxWords, xf_maxLength, xf_textCapacity, xf_wordCount, nI nc, xf_found, xf_codeDelay, xf_witnessSize, xf_queueCount, xf_textSize, xf_decoderOn, xf_decoderDone, xf_readSize, xf_settledAt, xf_settledSize, xa_wordCodes, xa_wordLengths, xa_nextNode, xa_wordEnd, xa_wordDelays, xa_witness, xa_witnessWords, xa_witnessCounts, xa_witnessRest, xa_startNodes, xa_pairSeen, xa_pairHeight, xa_queuePair, xa_queueFrom, xa_queueDepth, xa_queueGroup, xa_queueBit, xa_text, xa_ways, xa_openNode, xa_lastWord, xa_wordsTo, xa_settled) (nI K) := by
  have hN := hc.1
  obtain ⟨e2, l1, l2, _⟩ := da_cok_v hc hK
  have ck : (nI K).toNatClampNeg = K := nI_clamp (by omega)
  refine And.intro (vp_in_nI (by omega) (by omega)) (nm_r (e' := nI (da_L xa_wordLengths K - 1)) ?_ ⟨da_L xa_wordLengths K + 1, ?_⟩)
  · rw [ck, e2, show (1 : Int32) = nI 1 from rfl, pk_sub l1]
  · have := xw_ins14 (post := post) hc hK h (da_L xa_wordLengths K + 1) 0 nd nc xa_nextNode (by omega) (by omega) (da_tb_enter (da_cok_ok hc) hK ht)
    rw [ht.1 K] at this
    exact this
theorem xw_bt36 {N : Nat} {post : SX → Prop} (hc : da_cok N xa_wordCodes xa_wordLengths)
    (h : ∀ nd nc nx we, da_tb (da_L xa_wordLengths) (da_B xa_wordCodes xa_wordLengths) (da_iq (da_L xa_wordLengths) N) N (1 + 7 * N) nd nc nx we → post (xf_maxWords, xf_maxLength, xf_textCapacity, nI N, nI nc, xf_found, xf_codeDelay, xf_witnessSize, xf_queueCount, xf_textSize, xf_decoderOn, xf_decoderDone, xf_readSize, xf_settledAt, xf_settledSize, xa_wordCodes, xa_wordLengths, nx, we, xa_wordDelays, xa_witness, xa_witnessWords, xa_witnessCounts, xa_witnessRest, xa_startNodes, xa_pairSeen, xa_pairHeight, xa_queuePair, xa_queueFrom, xa_queueDepth, xa_queueGroup, xa_queueBit, xa_text, xa_ways, xa_openNode, xa_lastWord, xa_wordsTo, xa_settled)) :
    ∀ f K nd nc nx we, K ≤ N → N - K < f → da_tb (da_L xa_wordLengths) (da_B xa_wordCodes xa_wordLengths) (da_iq (da_L xa_wordLengths) K) K (1 + 7 * K) nd nc nx we →
      wX_buildTrie_36 post f (nI K) xf_maxWords xf_maxLength xf_textCapacity (nI N) (nI nc) xf_found xf_codeDelay xf_witnessSize xf_queueCount xf_textSize xf_decoderOn xf_decoderDone xf_readSize xf_settledAt xf_settledSize xa_wordCodes xa_wordLengths nx we xa_wordDelays xa_witness xa_witnessWords xa_witnessCounts xa_witnessRest xa_startNodes xa_pairSeen xa_pairHeight xa_queuePair xa_queueFrom xa_queueDepth xa_queueGroup xa_queueBit xa_text xa_ways xa_openNode xa_lastWord xa_wordsTo xa_settled := by
  have hN := hc.1
  intro f
  induction f with
  | zero => intro K nd nc nx we _ h0; omega
  | succ f ih =>
    intro K nd nc nx we hK hf ht
    refine pk_le N K (fun q => ?_) (fun q => ?_)
    · have : K = N := by omega
      subst this
      exact h nd nc nx we ht
    · refine xw_insertWord hc q ht (fun nd' nc' nx' we' ht' => nm_r (nI_1 K) ?_)
      exact ih (K + 1) nd' nc' nx' we' (by omega) (by omega) ht'
theorem xw_bt2 {N : Nat} {post : SX → Prop} (hc : da_cok N xa_wordCodes xa_wordLengths)
    (h : ∀ nd nc nx we, da_tb (da_L xa_wordLengths) (da_B xa_wordCodes xa_wordLengths) (da_iq (da_L xa_wordLengths) N) N (1 + 7 * N) nd nc nx we → post (xf_maxWords, xf_maxLength, xf_textCapacity, nI N, nI nc, xf_found, xf_codeDelay, xf_witnessSize, xf_queueCount, xf_textSize, xf_decoderOn, xf_decoderDone, xf_readSize, xf_settledAt, xf_settledSize, xa_wordCodes, xa_wordLengths, nx, we, xa_wordDelays, xa_witness, xa_witnessWords, xa_witnessCounts, xa_witnessRest, xa_startNodes, xa_pairSeen, xa_pairHeight, xa_queuePair, xa_queueFrom, xa_queueDepth, xa_queueGroup, xa_queueBit, xa_text, xa_ways, xa_openNode, xa_lastWord, xa_wordsTo, xa_settled)) :
    ∀ f i nx we, i ≤ 128 → 128 - i < f → (∀ s, s < i → nx s = -1) → (∀ s, s < i → we s = -1) →
      wX_buildTrie_2 post xf_maxWords xf_maxLength xf_textCapacity (nI N) xf_nodeCount xf_found xf_codeDelay xf_witnessSize xf_queueCount xf_textSize xf_decoderOn xf_decoderDone xf_readSize xf_settledAt xf_settledSize f (nI i) xa_wordCodes xa_wordLengths nx we xa_wordDelays xa_witness xa_witnessWords xa_witnessCounts xa_witnessRest xa_startNodes xa_pairSeen xa_pairHeight xa_queuePair xa_queueFrom xa_queueDepth xa_queueGroup xa_queueBit xa_text xa_ways xa_openNode xa_lastWord xa_wordsTo xa_settled := by
  intro f
  induction f with
  | zero => intro i nx we _ h0; omega
  | succ f ih =>
    intro i nx we hi hf h1 h2
    refine pk_le 128 i (fun q => ?_) (fun q => ?_)
    · have : i = 128 := by omega
      subst this
      exact ⟨N + 1, xw_bt36 hc h (N + 1) 0 _ 1 nx we (by omega) (by omega) (da_tb0 h1 h2)⟩
    · have i1 : vp_in (nI i) 128 := vp_in_nI (by omega) (by omega)
      have c1 : (nI i).toNatClampNeg = i := nI_clamp (by omega)
      rw [c1]
      refine ⟨i1, nm_e ⟨i1, nm_e (nm_r (nI_1 i) ?_)⟩⟩
      refine ih (i + 1) _ _ (by omega) (by omega) (fun s hs => ?_) (fun s hs => ?_)
      · by_cases e : s = i
        · subst e; exact pk_us
        · rw [pk_un e]; exact h1 s (by omega)
      · by_cases e : s = i
        · subst e; exact pk_us
        · rw [pk_un e]; exact h2 s (by omega)
theorem xw_buildTrie {N : Nat} {post : SX → Prop} (hc : da_cok N xa_wordCodes xa_wordLengths) (hN : 0 < N)
    (h : ∀ nd nc nx we, da_tri N (da_L xa_wordLengths) (da_B xa_wordCodes xa_wordLengths) nd nc nx we → post (xf_maxWords, xf_maxLength, xf_textCapacity, nI N, nI nc, xf_found, xf_codeDelay, xf_witnessSize, xf_queueCount, xf_textSize, xf_decoderOn, xf_decoderDone, xf_readSize, xf_settledAt, xf_settledSize, xa_wordCodes, xa_wordLengths, nx, we, xa_wordDelays, xa_witness, xa_witnessWords, xa_witnessCounts, xa_witnessRest, xa_startNodes, xa_pairSeen, xa_pairHeight, xa_queuePair, xa_queueFrom, xa_queueDepth, xa_queueGroup, xa_queueBit, xa_text, xa_ways, xa_openNode, xa_lastWord, xa_wordsTo, xa_settled)) :
    wpX_buildTrie post (xf_maxWords, xf_maxLength, xf_textCapacity, nI N, xf_nodeCount, xf_found, xf_codeDelay, xf_witnessSize, xf_queueCount, xf_textSize, xf_decoderOn, xf_decoderDone, xf_readSize, xf_settledAt, xf_settledSize, xa_wordCodes, xa_wordLengths, xa_nextNode, xa_wordEnd, xa_wordDelays, xa_witness, xa_witnessWords, xa_witnessCounts, xa_witnessRest, xa_startNodes, xa_pairSeen, xa_pairHeight, xa_queuePair, xa_queueFrom, xa_queueDepth, xa_queueGroup, xa_queueBit, xa_text, xa_ways, xa_openNode, xa_lastWord, xa_wordsTo, xa_settled) := by
  have hN8 := hc.1
  exact ⟨129, xw_bt2 hc (fun nd nc nx we ht => h nd nc nx we (da_tb_tri (da_cok_ok hc) hN (by omega) ht)) 129 0 xa_nextNode xa_wordEnd (by omega) (by omega) (fun s hs => by omega) (fun s hs => by omega)⟩
end
end
section
/-! sets of nodes in a long; the nodes after a word -/
def da_mem (x : Int64) (i : Nat) : Prop := x.toBitVec.getLsbD i = true
theorem da_mem_0 (i : Nat) : ¬ da_mem 0 i := by
  unfold da_mem
  show ¬ (0#64).getLsbD i = true
  simp
theorem da_mem_or {x y : Int64} {i : Nat} : da_mem (x ||| y) i ↔ da_mem x i ∨ da_mem y i := by
  unfold da_mem
  rw [Int64.toBitVec_or, BitVec.getLsbD_or, Bool.or_eq_true]
theorem da_mem_shl {k i : Nat} (hk : k < 64) : da_mem ((1 : Int64) <<< ((nI k).toInt64 &&& 63)) i ↔ i = k := by
  unfold da_mem
  rw [show (1 : Int64) = lN 1 from rfl, wb_shl 1 hk, wb_tb, Nat.one_mul, BitVec.getLsbD_ofNat, Nat.testBit_two_pow]
  simp
  constructor
  · rintro ⟨_, h⟩; exact h.symm
  · intro h; exact ⟨by omega, h.symm⟩
theorem da_mem_1 {i : Nat} : da_mem 1 i ↔ i = 0 := da_mem_shl (k := 0) (by omega)
theorem da_bit0 {x : Int64} {i : Nat} (hi : i < 64) : ((x >>> ((nI i).toInt64 &&& 63)) &&& 1) = 0 ↔ ¬ da_mem x i := by
  unfold da_mem
  rw [wb_c i hi, ← Int64.toBitVec_inj, Int64.toBitVec_and, Int64.toBitVec_shiftRight, wb_tb, wb_sm i hi]
  have e : (BitVec.ofNat 64 i).toNat = i := by rw [BitVec.toNat_ofNat]; exact Nat.mod_eq_of_lt (by omega)
  show (x.toBitVec.sshiftRight (BitVec.ofNat 64 i).toNat) &&& 1#64 = 0#64 ↔ _
  rw [e]
  constructor
  · intro h w
    have t := congrArg (fun y => y.getLsbD 0) h
    simp only [BitVec.getLsbD_and, BitVec.getLsbD_sshiftRight] at t
    simp [hi] at t
    rw [BitVec.getLsbD_eq_getElem hi, t] at w
    cases w
  · intro h
    apply BitVec.eq_of_getLsbD_eq
    intro j hj
    rw [BitVec.getLsbD_and, BitVec.getLsbD_one]
    by_cases z : j = 0
    · subst z
      rw [BitVec.getLsbD_sshiftRight]
      simp [hi]
      rw [BitVec.getLsbD_eq_getElem hi] at h
      simpa using h
    · simp [z]
def da_xk (N : Nat) (L : Nat → Nat) (B : Nat → Nat → Nat) (nd : Nat → Nat → Nat) (k u c u' : Nat) : Prop := da_dp N L B nd u c u' ∨ (u' = 0 ∧ ∃ k', k' ≠ k ∧ da_en N L B nd u c k')
theorem da_sg_snoc (t : Nat → Nat) (i n : Nat) : da_sg t i (n + 1) = da_sg t i n ++ [t (i + n)] := by
  rw [da_sg_app t n i 1]; rfl
section
variable {N : Nat} {L : Nat → Nat} {B : Nat → Nat → Nat} {nd : Nat → Nat → Nat} {nc : Nat} {nx we : Nat → Int32}
theorem da_en_u (h : da_tri N L B nd nc nx we) (hk : da_ok N L B) {u c k k' : Nat} (h1 : da_en N L B nd u c k) (h2 : da_en N L B nd u c k') : k = k' := by
  have q1 := h.2.2.2.2.2.2.2.1 k h1.1
  have q2 := h.2.2.2.2.2.2.2.1 k' h2.1
  have hN := hk.1
  rw [← h1.2.1, h1.2.2] at q1
  rw [← h2.2.1, h2.2.2] at q2
  have := h1.1
  have := h2.1
  exact (nI_eq (by omega) (by omega)).mp (q1.symm.trans q2)
theorem da_dp_lt (h : da_tri N L B nd nc nx we) {u c u' : Nat} (h1 : da_dp N L B nd u c u') : u' < nc := by
  obtain ⟨k, j, a, b, _, _, e⟩ := h1
  rw [e]; exact h.2.2.2.1 k (j + 1) a b
theorem da_xk_lt (h : da_tri N L B nd nc nx we) {k u c u' : Nat} (h1 : da_xk N L B nd k u c u') : u' < nc := by
  rcases h1 with h1 | ⟨h1, _⟩
  · exact da_dp_lt h h1
  · have := h.2.1; omega
theorem da_xkw_lt (h : da_tri N L B nd nc nx we) {k : Nat} : ∀ (bs : List Nat) (u u' : Nat), u < nc → da_w (da_xk N L B nd k) bs u u' → u' < nc
  | [], u, u', hu, e => by cases (show u = u' from e); exact hu
  | _ :: bs, _, u', _, ⟨x, h1, h2⟩ => da_xkw_lt h bs x u' (da_xk_lt h h1) h2
end
section
variable {xf_maxWords xf_maxLength xf_textCapacity xf_wordCount xf_nodeCount xf_found xf_codeDelay xf_witnessSize xf_queueCount xf_textSize xf_decoderOn xf_decoderDone xf_readSize xf_settledAt xf_settledSize : Int32} {xa_wordCodes xa_wordLengths xa_nextNode xa_wordEnd xa_wordDelays xa_witness xa_witnessWords xa_witnessCounts xa_witnessRest xa_pairSeen xa_pairHeight xa_queuePair xa_queueFrom xa_queueDepth xa_queueGroup xa_queueBit xa_text xa_ways xa_openNode xa_lastWord xa_wordsTo xa_settled : Nat → Int32} {xa_startNodes : Nat → Int64}
theorem xw_na35 {N : Nat} {L : Nat → Nat} {B : Nat → Nat → Nat} {nd : Nat → Nat → Nat} {nc : Nat} {post : Int64 → Prop} {J13 : Int64 → Int32 → Prop} (hk : da_ok N L B) (ht : da_tri N L B nd nc xa_nextNode xa_wordEnd) {k c : Nat} {x2 : Int64} {x4 : Int32} {j : Nat} (hkN : k < N) (hc : c < 2)
    (hJ : ∀ y, (∀ u', da_mem y u' ↔ ∃ u, u < nc ∧ da_mem x2 u ∧ da_xk N L B nd k u c u') → J13 y (nI (j + 1))) :
    ∀ f i y, i ≤ nc → nc - i < f → (∀ u', da_mem y u' ↔ ∃ u, u < i ∧ da_mem x2 u ∧ da_xk N L B nd k u c u') →
      wX_nodesAfter_35 post J13 (nI k) x2 x4 (nI j) (nI c) xf_maxWords xf_maxLength xf_textCapacity xf_wordCount (nI nc) xf_found xf_codeDelay xf_witnessSize xf_queueCount xf_textSize xf_decoderOn xf_decoderDone xf_readSize xf_settledAt xf_settledSize xa_wordCodes xa_wordLengths xa_nextNode xa_wordEnd xa_wordDelays xa_witness xa_witnessWords xa_witnessCounts xa_witnessRest xa_startNodes xa_pairSeen xa_pairHeight xa_queuePair xa_queueFrom xa_queueDepth xa_queueGroup xa_queueBit xa_text xa_ways xa_openNode xa_lastWord xa_wordsTo xa_settled f y (nI i) := by
  have h57 := ht.2.2.1
  have hN := hk.1
  intro f
  induction f with
  | zero => intro i y _ h0; omega
  | succ f ih =>
    intro i y hi hf hy
    refine pk_le nc i (fun q => ?_) (fun q => ?_)
    · have : i = nc := by omega
      subst this
      exact nm_r (nI_1 j) (hJ y hy)
    · have next : ∀ y', (∀ u', da_mem y' u' ↔ da_mem y u' ∨ (da_mem x2 i ∧ da_xk N L B nd k i c u')) → wX_nodesAfter_35 post J13 (nI k) x2 x4 (nI j) (nI c) xf_maxWords xf_maxLength xf_textCapacity xf_wordCount (nI nc) xf_found xf_codeDelay xf_witnessSize xf_queueCount xf_textSize xf_decoderOn xf_decoderDone xf_readSize xf_settledAt xf_settledSize xa_wordCodes xa_wordLengths xa_nextNode xa_wordEnd xa_wordDelays xa_witness xa_witnessWords xa_witnessCounts xa_witnessRest xa_startNodes xa_pairSeen xa_pairHeight xa_queuePair xa_queueFrom xa_queueDepth xa_queueGroup xa_queueBit xa_text xa_ways xa_openNode xa_lastWord xa_wordsTo xa_settled f y' (nI (i + 1)) := by
        intro y' h'
        refine ih (i + 1) y' (by omega) (by omega) (fun u' => ?_)
        rw [h', hy]
        constructor
        · rintro (⟨u, a, b⟩ | ⟨a, b⟩)
          · exact ⟨u, by omega, b⟩
          · exact ⟨i, by omega, a, b⟩
        · rintro ⟨u, a, b, d⟩
          rcases Nat.lt_or_ge u i with z | z
          · exact Or.inl ⟨u, z, b, d⟩
          · have : u = i := by omega
            subst this
            exact Or.inr ⟨b, d⟩
      refine br_c (fun z => nm_r (nI_1 i) ?_) (fun z => ?_)
      · refine next y (fun u' => ⟨fun w => Or.inl w, fun w => ?_⟩)
        rcases w with w | ⟨w, _⟩
        · exact w
        · exact absurd w ((da_bit0 (by omega)).mp z)
      · have hm : da_mem x2 i := by
          rcases Classical.em (da_mem x2 i) with w | w
          · exact w
          · exact absurd ((da_bit0 (by omega)).mpr w) z
        have e1 : nI i * 2 + nI c = nI (i * 2 + c) := by rw [show (2 : Int32) = nI 2 from rfl, pk_mul, nI_add]
        have i1 : vp_in (nI (i * 2 + c)) 128 := vp_in_nI (by omega) (by omega)
        have c1 : (nI (i * 2 + c)).toNatClampNeg = i * 2 + c := nI_clamp (by omega)
        have tail : ∀ y', (∀ u', da_mem y' u' ↔ da_mem y u' ∨ da_dp N L B nd i c u') → wX_nodesAfter_88 post J13 (wX_nodesAfter_35 post J13 (nI k) x2 x4 (nI j) (nI c) xf_maxWords xf_maxLength xf_textCapacity xf_wordCount (nI nc) xf_found xf_codeDelay xf_witnessSize xf_queueCount xf_textSize xf_decoderOn xf_decoderDone xf_readSize xf_settledAt xf_settledSize xa_wordCodes xa_wordLengths xa_nextNode xa_wordEnd xa_wordDelays xa_witness xa_witnessWords xa_witnessCounts xa_witnessRest xa_startNodes xa_pairSeen xa_pairHeight xa_queuePair xa_queueFrom xa_queueDepth xa_queueGroup xa_queueBit xa_text xa_ways xa_openNode xa_lastWord xa_wordsTo xa_settled f) (nI k) x2 x4 (nI j) (nI c) y' (nI i) (nI (i * 2 + c)) xf_maxWords xf_maxLength xf_textCapacity xf_wordCount (nI nc) xf_found xf_codeDelay xf_witnessSize xf_queueCount xf_textSize xf_decoderOn xf_decoderDone xf_readSize xf_settledAt xf_settledSize xa_wordCodes xa_wordLengths xa_nextNode xa_wordEnd xa_wordDelays xa_witness xa_witnessWords xa_witnessCounts xa_witnessRest xa_startNodes xa_pairSeen xa_pairHeight xa_queuePair xa_queueFrom xa_queueDepth xa_queueGroup xa_queueBit xa_text xa_ways xa_openNode xa_lastWord xa_wordsTo xa_settled := by
          intro y' h'
          unfold wX_nodesAfter_88
          rw [c1]
          refine ⟨i1, ?_⟩
          rcases da_tri_we hk ht q hc with ⟨z1, z2⟩ | ⟨k', z1, z2, z3⟩
          · rw [z1]
            refine br_t da_neg1 (nm_r (nI_1 i) (next y' (fun u' => ?_)))
            rw [h']
            constructor
            · rintro (w | w)
              · exact Or.inl w
              · exact Or.inr ⟨hm, Or.inl w⟩
            · rintro (w | ⟨_, w | ⟨_, k'', _, w⟩⟩)
              · exact Or.inl w
              · exact Or.inr w
              · exact absurd w (z2 k'')
          · rw [z2]
            refine br_f (nI_pos (by omega)) ⟨i1, pk_eq k' k (fun e => nm_r (nI_1 i) (next y' (fun u' => ?_))) (fun e => nm_e (nm_r (nI_1 i) (next _ (fun u' => ?_))))⟩
            · rw [h']
              constructor
              · rintro (w | w)
                · exact Or.inl w
                · exact Or.inr ⟨hm, Or.inl w⟩
              · rintro (w | ⟨_, w | ⟨_, k'', n1, w⟩⟩)
                · exact Or.inl w
                · exact Or.inr w
                · exact absurd ((da_en_u ht hk w z3).trans e) n1
            · rw [da_mem_or, h', da_mem_1]
              constructor
              · rintro ((w | w) | w)
                · exact Or.inl w
                · exact Or.inr ⟨hm, Or.inl w⟩
                · exact Or.inr ⟨hm, Or.inr ⟨w, k', e, z3⟩⟩
              · rintro (w | ⟨_, w | ⟨w, _⟩⟩)
                · exact Or.inl (Or.inl w)
                · exact Or.inl (Or.inr w)
                · exact Or.inr w
        refine nm_r e1 ?_
        rw [c1]
        refine ⟨i1, ?_⟩
        rcases da_tri_nx hk ht q hc with ⟨z1, z2⟩ | ⟨u1, z1, z2, z3⟩
        · rw [z1]
          refine br_t da_neg1 (tail y (fun u' => ⟨fun w => Or.inl w, fun w => ?_⟩))
          rcases w with w | w
          · exact w
          · exact absurd w (z2 u')
        · rw [z2]
          refine br_f (nI_pos (by omega)) ⟨i1, nm_e (tail _ (fun u' => ?_))⟩
          rw [da_mem_or, da_mem_shl (by omega)]
          constructor
          · rintro (w | w)
            · exact Or.inl w
            · rw [w]; exact Or.inr z3
          · rintro (w | w)
            · exact Or.inl w
            · refine Or.inr ?_
              rcases da_tri_nx hk ht q hc with ⟨_, z5⟩ | _
              · exact absurd w (z5 u')
              · obtain ⟨k1, j1, a1, a2, a3, a4, a5⟩ := w
                obtain ⟨k2, j2, b1, b2, b3, b4, b5⟩ := z3
                have p1 := ht.2.2.2.2.2.1 k1 j1 a1 a2
                have p2 := ht.2.2.2.2.2.1 k2 j2 b1 b2
                have q1 := ht.2.2.2.1 k1 (j1 + 1) a1 a2
                have q2 := ht.2.2.2.1 k2 (j2 + 1) b1 b2
                rw [← a3, a4] at p1
                rw [← b3, b4] at p2
                rw [a5, b5]
                exact (nI_eq (by omega) (by omega)).mp (p1.symm.trans p2)
theorem xw_na13 {N : Nat} {nd : Nat → Nat → Nat} {nc k : Nat} {post : Int64 → Prop} (hc : da_cok N xa_wordCodes xa_wordLengths) (ht : da_tri N (da_L xa_wordLengths) (da_B xa_wordCodes xa_wordLengths) nd nc xa_nextNode xa_wordEnd) (hkN : k < N)
    (h : ∀ y, (∀ u', da_mem y u' ↔ da_w (da_xk N (da_L xa_wordLengths) (da_B xa_wordCodes xa_wordLengths) nd k) (da_sg (da_B xa_wordCodes xa_wordLengths k) 0 (da_L xa_wordLengths k)) 0 u') → post y) :
    ∀ f j y, j ≤ da_L xa_wordLengths k → da_L xa_wordLengths k - j < f → (∀ u', da_mem y u' ↔ da_w (da_xk N (da_L xa_wordLengths) (da_B xa_wordCodes xa_wordLengths) nd k) (da_sg (da_B xa_wordCodes xa_wordLengths k) 0 j) 0 u') →
      wX_nodesAfter_13 post (nI k) (nI (da_L xa_wordLengths k)) xf_maxWords xf_maxLength xf_textCapacity xf_wordCount (nI nc) xf_found xf_codeDelay xf_witnessSize xf_queueCount xf_textSize xf_decoderOn xf_decoderDone xf_readSize xf_settledAt xf_settledSize xa_wordCodes xa_wordLengths xa_nextNode xa_wordEnd xa_wordDelays xa_witness xa_witnessWords xa_witnessCounts xa_witnessRest xa_startNodes xa_pairSeen xa_pairHeight xa_queuePair xa_queueFrom xa_queueDepth xa_queueGroup xa_queueBit xa_text xa_ways xa_openNode xa_lastWord xa_wordsTo xa_settled f y (nI j) := by
  have hok := da_cok_ok hc
  obtain ⟨_, l1, l2, _⟩ := da_cok_v hc hkN
  have h0 : 0 < nc := ht.2.1
  intro f
  induction f with
  | zero => intro j y _ h0; omega
  | succ f ih =>
    intro j y hj hf hy
    refine pk_le (da_L xa_wordLengths k) j (fun q => ?_) (fun q => ?_)
    · have : j = da_L xa_wordLengths k := by omega
      subst this
      exact h y hy
    · refine xw_wordBit hc hkN q ⟨nc + 1, ?_⟩
      refine xw_na35 hok ht hkN (hok.2.2.1 k j) (fun y' h' => ?_) (nc + 1) 0 0 (by omega) (by omega) (fun u' => ⟨fun w => absurd w (da_mem_0 u'), fun ⟨u, a, _⟩ => by omega⟩)
      refine ih (j + 1) y' (by omega) (by omega) (fun u' => ?_)
      rw [h', da_sg_snoc, Nat.zero_add, da_w_app]
      constructor
      · rintro ⟨u, _, a, b⟩
        exact ⟨u, (hy u).mp a, da_w_1.mpr b⟩
      · rintro ⟨u, a, b⟩
        exact ⟨u, da_xkw_lt ht _ 0 u h0 a, (hy u).mpr a, da_w_1.mp b⟩
theorem xw_nodesAfter {N : Nat} {nd : Nat → Nat → Nat} {nc k : Nat} {post : Int64 → Prop} (hc : da_cok N xa_wordCodes xa_wordLengths) (ht : da_tri N (da_L xa_wordLengths) (da_B xa_wordCodes xa_wordLengths) nd nc xa_nextNode xa_wordEnd) (hkN : k < N)
    (h : ∀ y, (∀ u', da_mem y u' ↔ da_w (da_xk N (da_L xa_wordLengths) (da_B xa_wordCodes xa_wordLengths) nd k) (da_sg (da_B xa_wordCodes xa_wordLengths k) 0 (da_L xa_wordLengths k)) 0 u') → post y) :
    wpX_nodesAfter post (xf_maxWords, xf_maxLength, xf_textCapacity, xf_wordCount, nI nc, xf_found, xf_codeDelay, xf_witnessSize, xf_queueCount, xf_textSize, xf_decoderOn, xf_decoderDone, xf_readSize, xf_settledAt, xf_settledSize, xa_wordCodes, xa_wordLengths, xa_nextNode, xa_wordEnd, xa_wordDelays, xa_witness, xa_witnessWords, xa_witnessCounts, xa_witnessRest, xa_startNodes, xa_pairSeen, xa_pairHeight, xa_queuePair, xa_queueFrom, xa_queueDepth, xa_queueGroup, xa_queueBit, xa_text, xa_ways, xa_openNode, xa_lastWord, xa_wordsTo, xa_settled) (nI k) := by
  have hN := hc.1
  obtain ⟨e2, l1, l2, _⟩ := da_cok_v hc hkN
  have ck : (nI k).toNatClampNeg = k := nI_clamp (by omega)
  refine And.intro (vp_in_nI (by omega) (by omega)) (nm_r (e' := nI (da_L xa_wordLengths k)) (by rw [ck]; exact e2) ⟨da_L xa_wordLengths k + 1, ?_⟩)
  refine xw_na13 hc ht hkN h _ 0 1 (by omega) (by omega) (fun u' => ?_)
  rw [da_mem_1]
  exact ⟨fun e => e.symm, fun e => (show 0 = u' from e).symm⟩
end
/-! the same nodes by the reference's readers -/
section
variable {N : Nat} {L : Nat → Nat} {B : Nat → Nat → Nat} {nd : Nat → Nat → Nat} {nc : Nat} {nx we : Nat → Int32}
/-- a reader that begins with word b and has read the first j bits of word a -/
def da_yb (N : Nat) (L : Nat → Nat) (B : Nat → Nat → Nat) (a b : Nat) : Nat → Nat → Prop
  | 0, s => s = 0
  | 1, s => da_tr N L B 0 b (B a 0) s
  | j + 2, s => ∃ s1, da_yb N L B a b (j + 1) s1 ∧ da_t1 N L B s1 (B a (j + 1)) s
theorem da_yb_st (hk : da_ok N L B) {a b : Nat} : ∀ (j s : Nat), da_yb N L B a b j s → da_st N L s
  | 0, _, h => Or.inl h
  | 1, _, h => da_t1_st hk ⟨b, h⟩
  | _ + 2, _, ⟨_, _, h⟩ => da_t1_st hk h
/-- X's walk that never ends word a, over j bits of a: a reader that begins with another word -/
theorem da_xk_y (hk : da_ok N L B) (ht : da_tri N L B nd nc nx we) {a : Nat} (ha : a < N) : ∀ (j : Nat), j ≤ L a → ∀ u s, 1 ≤ j → da_w (da_xk N L B nd a) (da_sg (B a) 0 j) 0 u → da_st N L s → da_nds nd s = u → (∃ b, b < N ∧ b ≠ a ∧ da_yb N L B a b j s) ∨ (j < L a ∧ s = a * 8 + j) := by
  have hn := ht.1
  have hLa := hk.2.1 a ha
  intro j
  induction j with
  | zero => intro _ u s h; omega
  | succ j ih =>
    intro hj u s _ hw hs he
    rw [da_sg_snoc, Nat.zero_add, da_w_app] at hw
    obtain ⟨x, h1, h2⟩ := hw
    have h2 := da_w_1.mp h2
    have h2x : da_xt N L B nd x (B a j) u := by
      rcases h2 with q | ⟨q, k', _, q'⟩
      · exact (da_xt_iff hk).mpr (Or.inl q)
      · exact (da_xt_iff hk).mpr (Or.inr ⟨q, k', q'⟩)
    obtain ⟨s1, a1, a2, a3⟩ := da_xt_back hk hn h2x hs he
    by_cases z : j = 0
    · subst z
      have x0 : x = 0 := (show 0 = x from h1).symm
      have s10 := da_nds_z hk hn a1 (a2.trans x0)
      subst s10
      obtain ⟨b, hb⟩ := a3
      by_cases e : b = a
      · subst e
        obtain ⟨b1, b2, b3, b4, b5⟩ := hb
        rcases da_adv_v (L := L) (k := b) (j := 0) with ⟨p, q⟩ | ⟨p, q⟩
        · exfalso
          simp only [Nat.zero_mod] at b5
          rw [q] at b5
          subst b5
          rw [da_nds_0 hn] at he
          rcases h2 with w | ⟨_, k', w1, w2⟩
          · obtain ⟨k1, j1, c1, c2, c3, c4, c5⟩ := w
            have := ((hn.2 k1 0 k1 (j1 + 1) c1 (by omega) c1 c2).mp (by rw [hn.1, ← c5, he])).1
            omega
          · refine w1 (da_en_u ht hk w2 ⟨b1, ?_, ?_⟩)
            · rw [x0, show L b - 1 = 0 by omega, hn.1]
            · rw [show L b - 1 = 0 by omega]
        · simp only [Nat.zero_mod] at b5
          exact Or.inr ⟨by omega, by rw [b5, q]⟩
      · exact Or.inl ⟨b, hb.1, e, hb⟩
    · rcases ih (by omega) x s1 (by omega) h1 a1 a2 with ⟨b, p1, p2, p3⟩ | ⟨p1, p2⟩
      · refine Or.inl ⟨b, p1, p2, ?_⟩
        obtain ⟨j', rfl⟩ : ∃ j', j = j' + 1 := ⟨j - 1, by omega⟩
        exact ⟨s1, p3, a3⟩
      · subst p2
        have h3 := (da_t1_mid hk ha p1 (by omega)).mp a3
        rcases da_adv_v (L := L) (k := a) (j := j) with ⟨p, q⟩ | ⟨p, q⟩
        · exfalso
          rw [q] at h3
          have s0 := h3.2
          subst s0
          rw [da_nds_0 hn] at he
          rcases h2 with w | ⟨_, k', w1, w2⟩
          · obtain ⟨k1, j1, c1, c2, c3, c4, c5⟩ := w
            have := ((hn.2 k1 0 k1 (j1 + 1) c1 (by omega) c1 c2).mp (by rw [hn.1, ← c5, he])).1
            omega
          · refine w1 (da_en_u ht hk w2 ⟨ha, ?_, ?_⟩)
            · rw [← a2]
              have e1 : (a * 8 + j) % 8 = j := by omega
              have e2 : (a * 8 + j) / 8 = a := by omega
              unfold da_nds
              rw [e1, e2, show L a - 1 = j by omega]
            · rw [show L a - 1 = j by omega]
        · exact Or.inr ⟨by omega, h3.2.trans q⟩
theorem da_yb_x (hk : da_ok N L B) (ht : da_tri N L B nd nc nx we) {a b : Nat} (ha : a < N) (hb : b < N) (hne : b ≠ a) : ∀ (j : Nat), 1 ≤ j → j ≤ L a → ∀ s, da_yb N L B a b j s → da_w (da_xk N L B nd a) (da_sg (B a) 0 j) 0 (da_nds nd s) ∧ ((s = b * 8 + j ∧ j < L b ∧ ∀ x, x < j → B b x = B a x) ∨ (s % 8 < j ∧ ¬ (s % 8 + 1 = j ∧ s % 8 ≠ 0 ∧ L a = 0))) := by
  have hn := ht.1
  have hLa := hk.2.1 a ha
  have hLb := hk.2.1 b hb
  intro j
  induction j with
  | zero => intro h; omega
  | succ j ih =>
    intro _ hj s hs
    by_cases z : j = 0
    · subst z
      have hs : da_tr N L B 0 b (B a 0) s := hs
      obtain ⟨b1, b2, b3, b4, b5⟩ := hs
      simp only [Nat.zero_mod] at b4 b5
      have hx := da_xt_of hk hn (nd := nd) (s := 0) (c := B a 0) (s' := s) ⟨b, b1, Or.inl rfl, by simpa using b3, b4, b5⟩
      rw [da_nds_0 hn] at hx
      have w : da_xk N L B nd a 0 (B a 0) (da_nds nd s) := by
        rcases (da_xt_iff hk).mp hx with q | ⟨q, k', q'⟩
        · exact Or.inl q
        · refine Or.inr ⟨q, k', ?_, q'⟩
          intro e; subst e
          -- both words have one bit, the same
          obtain ⟨q1, q2, q3⟩ := q'
          have e1 : L k' - 1 = 0 := by
            have := ((hn.2 k' 0 k' (L k' - 1) q1 (by omega) q1 (by omega)).mp (by rw [hn.1, ← q2])).1
            omega
          rcases da_adv_v (L := L) (k := b) (j := 0) with ⟨p, r⟩ | ⟨p, r⟩
          · refine hne (hk.2.2.2 b k' hb ha (by omega) (fun x hx => ?_))
            have : x = 0 := by omega
            rw [this]; exact b4
          · have hst := da_st_adv hk (j := 0) hb (by omega)
            rw [← b5] at hst
            have := da_nds_z hk hn hst q
            omega
      refine ⟨⟨_, w, rfl⟩, ?_⟩
      rcases da_adv_v (L := L) (k := b) (j := 0) with ⟨p, r⟩ | ⟨p, r⟩
      · refine Or.inr ⟨by omega, by omega⟩
      · refine Or.inl ⟨b5.trans r, by omega, fun x hx => ?_⟩
        have : x = 0 := by omega
        rw [this]; exact b4
    · obtain ⟨j', rfl⟩ : ∃ j', j = j' + 1 := ⟨j - 1, by omega⟩
      obtain ⟨s1, h1, h2⟩ := hs
      obtain ⟨i1, i2⟩ := ih (by omega) (by omega) s1 h1
      have st1 := da_yb_st hk _ _ h1
      have hx := da_xt_of hk hn (nd := nd) h2
      have w : da_xk N L B nd a (da_nds nd s1) (B a (j' + 1)) (da_nds nd s) := by
        rcases (da_xt_iff hk).mp hx with q | ⟨q, k', q'⟩
        · exact Or.inl q
        · refine Or.inr ⟨q, k', ?_, q'⟩
          intro e; subst e
          obtain ⟨q1, q2, q3⟩ := q'
          -- the reader has read L - 1 bits since its last zero
          rcases i2 with ⟨e1, e2, e3⟩ | ⟨e1, _⟩
          · have f1 : (b * 8 + (j' + 1)) % 8 = j' + 1 := by omega
            have f2 : (b * 8 + (j' + 1)) / 8 = b := by omega
            rw [e1] at q2
            unfold da_nds at q2
            rw [f1, f2] at q2
            obtain ⟨g1, g2⟩ := (hn.2 b (j' + 1) k' (L k' - 1) hb e2 q1 (by omega)).mp q2
            rw [e1] at h2
            have h3 := (da_t1_mid hk hb e2 (by omega)).mp h2
            rcases da_adv_v (L := L) (k := b) (j := j' + 1) with ⟨p, r⟩ | ⟨p, r⟩
            · refine hne (hk.2.2.2 b k' hb ha (by omega) (fun x hx => ?_))
              rcases Nat.lt_or_ge x (j' + 1) with y | y
              · exact e3 x y
              · have : x = j' + 1 := by omega
                rw [this]; exact h3.1
            · have hst := da_st_adv hk (j := j' + 1) hb e2
              rw [← h3.2] at hst
              have := da_nds_z hk hn hst q
              omega
          · by_cases s0 : s1 = 0
            · subst s0
              rw [da_nds_0 hn] at q2
              have := ((hn.2 k' 0 k' (L k' - 1) q1 (by omega) q1 (by omega)).mp (by rw [hn.1, ← q2])).1
              omega
            · obtain ⟨k2, j2, c1, c2, c3, rfl⟩ := da_st_ex hk st1 s0
              have hL2 := hk.2.1 k2 c1
              have f1 : (k2 * 8 + j2) % 8 = j2 := by omega
              have f2 : (k2 * 8 + j2) / 8 = k2 := by omega
              unfold da_nds at q2
              rw [f1, f2] at q2
              obtain ⟨g1, g2⟩ := (hn.2 k2 j2 k' (L k' - 1) c1 c3 q1 (by omega)).mp q2
              omega
      refine ⟨?_, ?_⟩
      · rw [da_sg_snoc, Nat.zero_add]
        exact (da_w_app _ _ _ _).mpr ⟨_, i1, da_w_1.mpr w⟩
      · rcases i2 with ⟨e1, e2, e3⟩ | ⟨e1, _⟩
        · subst e1
          have h3 := (da_t1_mid hk hb e2 (by omega)).mp h2
          rcases da_adv_v (L := L) (k := b) (j := j' + 1) with ⟨p, r⟩ | ⟨p, r⟩
          · refine Or.inr ⟨by omega, by omega⟩
          · refine Or.inl ⟨h3.2.trans r, by omega, fun x hx => ?_⟩
            rcases Nat.lt_or_ge x (j' + 1) with y | y
            · exact e3 x y
            · have : x = j' + 1 := by omega
              rw [this]; exact h3.1
        · refine Or.inr ⟨?_, by omega⟩
          obtain ⟨k', a1, a2, a3, a4, a5⟩ := h2
          have hL' := hk.2.1 k' a1
          rcases da_adv_v (L := L) (k := k') (j := s1 % 8) with ⟨p, r⟩ | ⟨p, r⟩ <;> omega
/-- the heights after word a, on both sides -/
theorem da_A_eq (hk : da_ok N L B) (ht : da_tri N L B nd nc nx we) {a : Nat} (ha : a < N) (m : Nat) :
    (∃ u, da_w (da_xk N L B nd a) (da_sg (B a) 0 (L a)) 0 u ∧ da_lv (da_xt N L B nd) m 0 u) ↔ (∃ b s, b < N ∧ b ≠ a ∧ da_yb N L B a b (L a) s ∧ da_lv (da_t1 N L B) m 0 s) := by
  have hn := ht.1
  have hLa := hk.2.1 a ha
  constructor
  · rintro ⟨u, h1, h2⟩
    have hu := da_xkw_lt ht _ 0 u ht.2.1 h1
    obtain ⟨k, j, a1, a2, a3⟩ := ht.2.2.2.2.1 u hu
    obtain ⟨s0, x1, x2, _⟩ := da_nds_mk hk hn a1 a2
    obtain ⟨z, s, b1, b2, b3, b4, b5⟩ := da_lvx hk hn m 0 u ⟨0, Or.inl rfl, da_nds_0 hn⟩ ⟨s0, x1, x2.trans a3.symm⟩ h2
    have z0 := da_nds_z hk hn b1 b3
    subst z0
    rcases da_xk_y hk ht ha (L a) (Nat.le_refl _) u s (by omega) h1 b2 b4 with ⟨b, p1, p2, p3⟩ | ⟨p1, _⟩
    · exact ⟨b, s, p1, p2, p3, b5⟩
    · omega
  · rintro ⟨b, s, h1, h2, h3, h4⟩
    have := (da_yb_x hk ht ha h1 h2 (L a) (by omega) (Nat.le_refl _) s h3).1
    refine ⟨_, this, ?_⟩
    have q := da_lvx_of hk hn m 0 s h4
    rw [da_nds_0 hn] at q
    exact q
end
end
section
/-! counting; the queue of pairs; collecting all pairs after any word -/
noncomputable def da_cn (P : Nat → Prop) (n : Nat) : Nat := da_sm (fun k => da_if (P k) 1) n
theorem da_cn_s (P : Nat → Prop) (n : Nat) : da_cn P (n + 1) = da_cn P n + da_if (P n) 1 := rfl
theorem da_if1_le (P : Prop) : da_if P 1 ≤ 1 := by
  rcases Classical.em P with h | h
  · rw [da_if_t h]; omega
  · rw [da_if_f h]; omega
theorem da_cn_le (P : Nat → Prop) : ∀ n, da_cn P n ≤ n
  | 0 => Nat.le_refl _
  | n + 1 => by have := da_cn_le P n; have := da_if1_le (P n); rw [da_cn_s]; omega
theorem da_if1_mono {P Q : Prop} (h : P → Q) : da_if P 1 ≤ da_if Q 1 := by
  rcases Classical.em P with p | p
  · rw [da_if_t p, da_if_t (h p)]; omega
  · rw [da_if_f p]; omega
theorem da_cn_mono {P Q : Nat → Prop} : ∀ {n : Nat}, (∀ k, k < n → P k → Q k) → da_cn P n ≤ da_cn Q n
  | 0, _ => Nat.le_refl _
  | n + 1, h => by
    have a := da_cn_mono (P := P) (Q := Q) (n := n) (fun k hk => h k (by omega))
    have b := da_if1_mono (h n (by omega))
    rw [da_cn_s, da_cn_s]; omega
theorem da_cn_lt {P Q : Nat → Prop} {a : Nat} (hp : ¬ P a) (hq : Q a) : ∀ {n : Nat}, (∀ k, k < n → P k → Q k) → a < n → da_cn P n < da_cn Q n
  | 0, _, h => by omega
  | n + 1, h, ha => by
    rw [da_cn_s, da_cn_s]
    rcases Nat.lt_or_ge a n with z | z
    · have x := da_cn_lt hp hq (n := n) (fun k hk => h k (by omega)) z
      have b := da_if1_mono (h n (by omega))
      omega
    · have e : a = n := by omega
      subst e
      have x := da_cn_mono (P := P) (Q := Q) (n := a) (fun k hk => h k (by omega))
      rw [da_if_t hq, da_if_f hp]; omega
theorem da_cn_eq {P Q : Nat → Prop} {n : Nat} (h : ∀ k, k < n → (P k ↔ Q k)) : da_cn P n = da_cn Q n :=
  Nat.le_antisymm (da_cn_mono fun k hk => (h k hk).mp) (da_cn_mono fun k hk => (h k hk).mpr)
theorem da_cn_add {P Q : Nat → Prop} {a : Nat} (hp : ¬ P a) (hq : Q a) : ∀ {n : Nat}, (∀ k, k < n → k ≠ a → (P k ↔ Q k)) → a < n → da_cn Q n = da_cn P n + 1
  | 0, _, h => by omega
  | n + 1, h, ha => by
    rw [da_cn_s, da_cn_s]
    rcases Nat.lt_or_ge a n with z | z
    · have e : da_if (Q n) 1 = da_if (P n) 1 := Nat.le_antisymm (da_if1_mono (h n (by omega) (by omega)).mpr) (da_if1_mono (h n (by omega) (by omega)).mp)
      rw [da_cn_add hp hq (n := n) (fun k hk => h k (by omega)) z, e]; omega
    · have e : a = n := by omega
      subst e
      rw [da_cn_eq (P := Q) (Q := P) (fun k hk => (h k (by omega) (by omega)).symm), da_if_t hq, da_if_f hp]
theorem da_cn_0 {P : Nat → Prop} : ∀ {n : Nat}, (∀ k, k < n → ¬ P k) → da_cn P n = 0
  | 0, _ => rfl
  | n + 1, h => by rw [da_cn_s, da_cn_0 (fun k hk => h k (by omega)), da_if_f (h n (by omega))]
/-- queue and marks -/
def da_qi (nc : Nat) (seen qp : Nat → Int32) (qc : Nat) : Prop :=
  (∀ i, i < qc → ∃ u v, u < nc ∧ v < nc ∧ qp i = nI (u * 64 + v) ∧ seen (u * 64 + v) = 1) ∧
  (∀ p, p < 4096 → seen p = 0 ∨ (seen p = 1 ∧ ∃ i, i < qc ∧ qp i = nI p)) ∧
  da_cn (fun p => seen p = 1) 4096 = qc
theorem da_qi_le {nc qc : Nat} {seen qp : Nat → Int32} (h : da_qi nc seen qp qc) : qc ≤ 4096 := by
  rw [← h.2.2]; exact da_cn_le _ _
theorem da_10 : ¬ (1 : Int32) = 0 := by decide
theorem da_01 : ¬ (0 : Int32) = 1 := by decide
theorem da_qi_lt {nc qc p : Nat} {seen qp : Nat → Int32} (h : da_qi nc seen qp qc) (hp : p < 4096) (hs : seen p = 0) : qc < 4096 := by
  have := da_cn_lt (P := fun p => seen p = 1) (Q := fun _ => True) (a := p) (n := 4096) (by show ¬ seen p = 1; rw [hs]; exact da_01) trivial (fun _ _ _ => trivial) hp
  have := da_cn_le (fun _ => True) 4096
  have := h.2.2
  omega
theorem da_qi_add {nc qc u v : Nat} {seen qp : Nat → Int32} (h : da_qi nc seen qp qc) (hn : nc ≤ 57) (hu : u < nc) (hv : v < nc) (hs : seen (u * 64 + v) = 0) : da_qi nc (upd seen (u * 64 + v) 1) (upd qp qc (nI (u * 64 + v))) (qc + 1) := by
  have hl := da_qi_lt h (by omega) hs
  obtain ⟨h1, h2, h3⟩ := h
  refine ⟨fun i hi => ?_, fun p hp => ?_, ?_⟩
  · by_cases e : i = qc
    · subst e
      exact ⟨u, v, hu, hv, pk_us, pk_us⟩
    · obtain ⟨a, b, c1, c2, c3, c4⟩ := h1 i (by omega)
      refine ⟨a, b, c1, c2, by rw [pk_un e]; exact c3, ?_⟩
      by_cases e2 : a * 64 + b = u * 64 + v
      · rw [e2]; exact pk_us
      · rw [pk_un e2]; exact c4
  · by_cases e : p = u * 64 + v
    · subst e
      exact Or.inr ⟨pk_us, qc, by omega, pk_us⟩
    · rw [pk_un e]
      rcases h2 p hp with z | ⟨z, i, a, b⟩
      · exact Or.inl z
      · exact Or.inr ⟨z, i, by omega, by rw [pk_un (by omega)]; exact b⟩
  · rw [← h3]
    refine da_cn_add (a := u * 64 + v) ?_ pk_us (fun k hk e => ?_) (by omega)
    · show ¬ seen (u * 64 + v) = 1
      rw [hs]; exact da_01
    · show seen k = 1 ↔ upd seen _ _ k = 1
      rw [pk_un e]
/-- all starts are marked, and the successors of the first hd pairs -/
def da_ci (T : Nat → Nat → Nat → Prop) (St : Nat → Prop) (nc hd : Nat) (seen qp : Nat → Int32) (qc : Nat) : Prop :=
  da_qi nc seen qp qc ∧ (∀ u, St u → seen u = 1) ∧ (∀ i, i < hd → ∀ u v, u < nc → v < nc → qp i = nI (u * 64 + v) → ∀ c u' v', T u c u' → T v c v' → seen (u' * 64 + v') = 1)
theorem da_ci_add {T : Nat → Nat → Nat → Prop} {St : Nat → Prop} {nc hd qc u v : Nat} {seen qp : Nat → Int32} (h : da_ci T St nc hd seen qp qc) (hd' : hd ≤ qc) (hn : nc ≤ 57) (hu : u < nc) (hv : v < nc) (hs : seen (u * 64 + v) = 0) : da_ci T St nc hd (upd seen (u * 64 + v) 1) (upd qp qc (nI (u * 64 + v))) (qc + 1) := by
  have mono : ∀ p, seen p = 1 → upd seen (u * 64 + v) 1 p = 1 := by
    intro p q
    by_cases e : p = u * 64 + v
    · rw [e]; exact pk_us
    · rw [pk_un e]; exact q
  refine ⟨da_qi_add h.1 hn hu hv hs, fun x hx => mono _ (h.2.1 x hx), fun i hi a b ha hb e c a' b' t1 t2 => ?_⟩
  rw [pk_un (by omega)] at e
  exact mono _ (h.2.2 i hi a b ha hb e c a' b' t1 t2)
section
variable {xf_maxWords xf_maxLength xf_textCapacity xf_wordCount xf_nodeCount xf_found xf_codeDelay xf_witnessSize xf_queueCount xf_textSize xf_decoderOn xf_decoderDone xf_readSize xf_settledAt xf_settledSize : Int32} {xa_wordCodes xa_wordLengths xa_nextNode xa_wordEnd xa_wordDelays xa_witness xa_witnessWords xa_witnessCounts xa_witnessRest xa_pairSeen xa_pairHeight xa_queuePair xa_queueFrom xa_queueDepth xa_queueGroup xa_queueBit xa_text xa_ways xa_openNode xa_lastWord xa_wordsTo xa_settled : Nat → Int32} {xa_startNodes : Nat → Int64}
theorem xw_enqF {p h qc : Nat} {c g : Int32} {post : SX → Prop} (hp : p < 4096) (hh : h < 4096) (hq : xa_pairSeen p = 0 → qc < 4096) (hqc : qc ≤ 4096) (h1 : ¬ xa_pairSeen p = 0 → post (xf_maxWords, xf_maxLength, xf_textCapacity, xf_wordCount, xf_nodeCount, xf_found, xf_codeDelay, xf_witnessSize, nI qc, xf_textSize, xf_decoderOn, xf_decoderDone, xf_readSize, xf_settledAt, xf_settledSize, xa_wordCodes, xa_wordLengths, xa_nextNode, xa_wordEnd, xa_wordDelays, xa_witness, xa_witnessWords, xa_witnessCounts, xa_witnessRest, xa_startNodes, xa_pairSeen, xa_pairHeight, xa_queuePair, xa_queueFrom, xa_queueDepth, xa_queueGroup, xa_queueBit, xa_text, xa_ways, xa_openNode, xa_lastWord, xa_wordsTo, xa_settled))
    (h2 : xa_pairSeen p = 0 → post (xf_maxWords, xf_maxLength, xf_textCapacity, xf_wordCount, xf_nodeCount, xf_found, xf_codeDelay, xf_witnessSize, nI (qc + 1), xf_textSize, xf_decoderOn, xf_decoderDone, xf_readSize, xf_settledAt, xf_settledSize, xa_wordCodes, xa_wordLengths, xa_nextNode, xa_wordEnd, xa_wordDelays, xa_witness, xa_witnessWords, xa_witnessCounts, xa_witnessRest, xa_startNodes, upd xa_pairSeen p 1, xa_pairHeight, upd xa_queuePair qc (nI p), upd xa_queueFrom qc (nI h), upd xa_queueDepth qc (xa_queueDepth h + 1), upd xa_queueGroup qc g, upd xa_queueBit qc (vp_nar .byte c.toInt8.toInt32), xa_text, xa_ways, xa_openNode, xa_lastWord, xa_wordsTo, xa_settled)) :
    wpX_enqueue post (xf_maxWords, xf_maxLength, xf_textCapacity, xf_wordCount, xf_nodeCount, xf_found, xf_codeDelay, xf_witnessSize, nI qc, xf_textSize, xf_decoderOn, xf_decoderDone, xf_readSize, xf_settledAt, xf_settledSize, xa_wordCodes, xa_wordLengths, xa_nextNode, xa_wordEnd, xa_wordDelays, xa_witness, xa_witnessWords, xa_witnessCounts, xa_witnessRest, xa_startNodes, xa_pairSeen, xa_pairHeight, xa_queuePair, xa_queueFrom, xa_queueDepth, xa_queueGroup, xa_queueBit, xa_text, xa_ways, xa_openNode, xa_lastWord, xa_wordsTo, xa_settled) (nI p) (nI h) c g := by
  have ip : vp_in (nI p) 4096 := vp_in_nI hp (by omega)
  have cp : (nI p).toNatClampNeg = p := nI_clamp (by omega)
  have ih : vp_in (nI h) 4096 := vp_in_nI hh (by omega)
  have ch : (nI h).toNatClampNeg = h := nI_clamp (by omega)
  have cq : (nI qc).toNatClampNeg = qc := nI_clamp (by omega)
  refine And.intro ip ?_
  rw [cp, ch, cq]
  refine br_c (fun z => ?_) h1
  have hl := hq z
  have iq : vp_in (nI qc) 4096 := vp_in_nI hl (by omega)
  refine br_t (nI_lt (b := 4096) hl (by omega)) ⟨ip, nm_e ⟨iq, nm_e ⟨iq, nm_e ⟨iq, nm_e ⟨iq, nm_e (br_t (nI_pos' (by omega)) ⟨ih, iq, nm_e (nm_r (nI_1 qc) ?_)⟩)⟩⟩⟩⟩⟩
  exact h2 z
theorem xw_enqR {p qc : Nat} {c g : Int32} {post : SX → Prop} (hp : p < 4096) (hq : xa_pairSeen p = 0 → qc < 4096) (hqc : qc ≤ 4096) (h1 : ¬ xa_pairSeen p = 0 → post (xf_maxWords, xf_maxLength, xf_textCapacity, xf_wordCount, xf_nodeCount, xf_found, xf_codeDelay, xf_witnessSize, nI qc, xf_textSize, xf_decoderOn, xf_decoderDone, xf_readSize, xf_settledAt, xf_settledSize, xa_wordCodes, xa_wordLengths, xa_nextNode, xa_wordEnd, xa_wordDelays, xa_witness, xa_witnessWords, xa_witnessCounts, xa_witnessRest, xa_startNodes, xa_pairSeen, xa_pairHeight, xa_queuePair, xa_queueFrom, xa_queueDepth, xa_queueGroup, xa_queueBit, xa_text, xa_ways, xa_openNode, xa_lastWord, xa_wordsTo, xa_settled))
    (h2 : xa_pairSeen p = 0 → post (xf_maxWords, xf_maxLength, xf_textCapacity, xf_wordCount, xf_nodeCount, xf_found, xf_codeDelay, xf_witnessSize, nI (qc + 1), xf_textSize, xf_decoderOn, xf_decoderDone, xf_readSize, xf_settledAt, xf_settledSize, xa_wordCodes, xa_wordLengths, xa_nextNode, xa_wordEnd, xa_wordDelays, xa_witness, xa_witnessWords, xa_witnessCounts, xa_witnessRest, xa_startNodes, upd xa_pairSeen p 1, xa_pairHeight, upd xa_queuePair qc (nI p), upd xa_queueFrom qc (-1), upd xa_queueDepth qc 0, upd xa_queueGroup qc g, upd xa_queueBit qc (vp_nar .byte c.toInt8.toInt32), xa_text, xa_ways, xa_openNode, xa_lastWord, xa_wordsTo, xa_settled)) :
    wpX_enqueue post (xf_maxWords, xf_maxLength, xf_textCapacity, xf_wordCount, xf_nodeCount, xf_found, xf_codeDelay, xf_witnessSize, nI qc, xf_textSize, xf_decoderOn, xf_decoderDone, xf_readSize, xf_settledAt, xf_settledSize, xa_wordCodes, xa_wordLengths, xa_nextNode, xa_wordEnd, xa_wordDelays, xa_witness, xa_witnessWords, xa_witnessCounts, xa_witnessRest, xa_startNodes, xa_pairSeen, xa_pairHeight, xa_queuePair, xa_queueFrom, xa_queueDepth, xa_queueGroup, xa_queueBit, xa_text, xa_ways, xa_openNode, xa_lastWord, xa_wordsTo, xa_settled) (nI p) (-1) c g := by
  have ip : vp_in (nI p) 4096 := vp_in_nI hp (by omega)
  have cp : (nI p).toNatClampNeg = p := nI_clamp (by omega)
  have cq : (nI qc).toNatClampNeg = qc := nI_clamp (by omega)
  refine And.intro ip ?_
  rw [cp, cq]
  refine br_c (fun z => ?_) h1
  have hl := hq z
  have iq : vp_in (nI qc) 4096 := vp_in_nI hl (by omega)
  refine br_t (nI_lt (b := 4096) hl (by omega)) ⟨ip, nm_e ⟨iq, nm_e ⟨iq, nm_e ⟨iq, nm_e ⟨iq, nm_e (br_f (by decide) ⟨iq, nm_e (nm_r (nI_1 qc) ?_)⟩)⟩⟩⟩⟩⟩
  exact h2 z
theorem xw_cp7 {post : SX → Prop} (h : ∀ seen, (∀ p, p < 4096 → seen p = 0) → post (xf_maxWords, xf_maxLength, xf_textCapacity, xf_wordCount, xf_nodeCount, xf_found, xf_codeDelay, xf_witnessSize, xf_queueCount, xf_textSize, xf_decoderOn, xf_decoderDone, xf_readSize, xf_settledAt, xf_settledSize, xa_wordCodes, xa_wordLengths, xa_nextNode, xa_wordEnd, xa_wordDelays, xa_witness, xa_witnessWords, xa_witnessCounts, xa_witnessRest, xa_startNodes, seen, xa_pairHeight, xa_queuePair, xa_queueFrom, xa_queueDepth, xa_queueGroup, xa_queueBit, xa_text, xa_ways, xa_openNode, xa_lastWord, xa_wordsTo, xa_settled)) :
    ∀ f i seen, i ≤ 4096 → 4096 - i < f → (∀ p, p < i → seen p = 0) → wX_clearPairs_7 post xf_maxWords xf_maxLength xf_textCapacity xf_wordCount xf_nodeCount xf_found xf_codeDelay xf_witnessSize xf_queueCount xf_textSize xf_decoderOn xf_decoderDone xf_readSize xf_settledAt xf_settledSize f (nI i) xa_wordCodes xa_wordLengths xa_nextNode xa_wordEnd xa_wordDelays xa_witness xa_witnessWords xa_witnessCounts xa_witnessRest xa_startNodes seen xa_pairHeight xa_queuePair xa_queueFrom xa_queueDepth xa_queueGroup xa_queueBit xa_text xa_ways xa_openNode xa_lastWord xa_wordsTo xa_settled := by
  intro f
  induction f with
  | zero => intro i seen _ h0; omega
  | succ f ih =>
    intro i seen hi hf hs
    refine pk_le 4096 i (fun q => ?_) (fun q => ?_)
    · have : i = 4096 := by omega
      subst this
      exact h seen hs
    · have i1 : vp_in (nI i) 4096 := vp_in_nI (by omega) (by omega)
      have c1 : (nI i).toNatClampNeg = i := nI_clamp (by omega)
      rw [c1]
      refine ⟨i1, nm_e (nm_r (nI_1 i) (ih (i + 1) _ (by omega) (by omega) (fun p hp => ?_)))⟩
      by_cases e : p = i
      · subst e; exact pk_us
      · rw [pk_un e]; exact hs p (by omega)
theorem xw_clearPairs {post : SX → Prop} (h : ∀ seen, (∀ p, p < 4096 → seen p = 0) → post (xf_maxWords, xf_maxLength, xf_textCapacity, xf_wordCount, xf_nodeCount, xf_found, xf_codeDelay, xf_witnessSize, 0, xf_textSize, xf_decoderOn, xf_decoderDone, xf_readSize, xf_settledAt, xf_settledSize, xa_wordCodes, xa_wordLengths, xa_nextNode, xa_wordEnd, xa_wordDelays, xa_witness, xa_witnessWords, xa_witnessCounts, xa_witnessRest, xa_startNodes, seen, xa_pairHeight, xa_queuePair, xa_queueFrom, xa_queueDepth, xa_queueGroup, xa_queueBit, xa_text, xa_ways, xa_openNode, xa_lastWord, xa_wordsTo, xa_settled)) : wpX_clearPairs post (xf_maxWords, xf_maxLength, xf_textCapacity, xf_wordCount, xf_nodeCount, xf_found, xf_codeDelay, xf_witnessSize, xf_queueCount, xf_textSize, xf_decoderOn, xf_decoderDone, xf_readSize, xf_settledAt, xf_settledSize, xa_wordCodes, xa_wordLengths, xa_nextNode, xa_wordEnd, xa_wordDelays, xa_witness, xa_witnessWords, xa_witnessCounts, xa_witnessRest, xa_startNodes, xa_pairSeen, xa_pairHeight, xa_queuePair, xa_queueFrom, xa_queueDepth, xa_queueGroup, xa_queueBit, xa_text, xa_ways, xa_openNode, xa_lastWord, xa_wordsTo, xa_settled) :=
  ⟨4097, xw_cp7 h 4097 0 xa_pairSeen (by omega) (by omega) (fun p hp => by omega)⟩
theorem xw_co93 {N : Nat} {L : Nat → Nat} {B : Nat → Nat → Nat} {nd : Nat → Nat → Nat} {nc : Nat} {post : SX → Prop} {J67 : Int32 → Int32 → Int32 → Int32 → Int32 → Int32 → Int32 → Int32 → Int32 → Int32 → Int32 → Int32 → Int32 → Int32 → Int32 → Int32 → (Nat → Int32) → (Nat → Int32) → (Nat → Int32) → (Nat → Int32) → (Nat → Int32) → (Nat → Int32) → (Nat → Int32) → (Nat → Int32) → (Nat → Int32) → (Nat → Int64) → (Nat → Int32) → (Nat → Int32) → (Nat → Int32) → (Nat → Int32) → (Nat → Int32) → (Nat → Int32) → (Nat → Int32) → (Nat → Int32) → (Nat → Int32) → (Nat → Int32) → (Nat → Int32) → (Nat → Int32) → (Nat → Int32) → Prop} (hk : da_ok N L B) (ht : da_tri N L B nd nc xa_nextNode xa_wordEnd) {St : Nat → Prop} {hd u v : Nat} (hu : u < nc) (hv : v < nc)
    (hJ : ∀ seen qp qc qf qd qg qb, hd < qc → da_ci (da_xt N L B nd) St nc (hd + 1) seen qp qc → J67 (nI (hd + 1)) xf_maxWords xf_maxLength xf_textCapacity xf_wordCount (nI nc) xf_found xf_codeDelay xf_witnessSize (nI qc) xf_textSize xf_decoderOn xf_decoderDone xf_readSize xf_settledAt xf_settledSize xa_wordCodes xa_wordLengths xa_nextNode xa_wordEnd xa_wordDelays xa_witness xa_witnessWords xa_witnessCounts xa_witnessRest xa_startNodes seen xa_pairHeight qp qf qd qg qb xa_text xa_ways xa_openNode xa_lastWord xa_wordsTo xa_settled) :
    ∀ f mv seen qp qc qf qd qg qb, mv ≤ 8 → 8 - mv < f → hd < qc → qp hd = nI (u * 64 + v) → da_ci (da_xt N L B nd) St nc hd seen qp qc → (∀ m, m < mv → ∀ u' v', da_x2 N L B nd u v m u' v' → seen (u' * 64 + v') = 1) →
      wX_collectPairs_93 post J67 (nI hd) (nI (u * 64 + v)) f (nI mv) xf_maxWords xf_maxLength xf_textCapacity xf_wordCount (nI nc) xf_found xf_codeDelay xf_witnessSize (nI qc) xf_textSize xf_decoderOn xf_decoderDone xf_readSize xf_settledAt xf_settledSize xa_wordCodes xa_wordLengths xa_nextNode xa_wordEnd xa_wordDelays xa_witness xa_witnessWords xa_witnessCounts xa_witnessRest xa_startNodes seen xa_pairHeight qp qf qd qg qb xa_text xa_ways xa_openNode xa_lastWord xa_wordsTo xa_settled := by
  have h57 := ht.2.2.1
  intro f
  induction f with
  | zero => intro mv seen qp qc qf qd qg qb _ h0; omega
  | succ f ih =>
    intro mv seen qp qc qf qd qg qb hm hf hq e hci hmv
    have hqc := da_qi_le hci.1
    refine pk_le 8 mv (fun q => ?_) (fun q => ?_)
    · refine nm_r (nI_1 hd) (hJ seen qp qc qf qd qg qb hq ⟨hci.1, hci.2.1, fun i hi a b ha hb e2 c a' b' t1 t2 => ?_⟩)
      rcases Nat.lt_or_ge i hd with z | z
      · exact hci.2.2 i z a b ha hb e2 c a' b' t1 t2
      · have : i = hd := by omega
        subst this
        have e3 : a * 64 + b = u * 64 + v := (nI_eq (by omega) (by omega)).mp (e2.symm.trans e)
        have ea : a = u := by omega
        have eb : b = v := by omega
        subst ea; subst eb
        obtain ⟨ch, hch, hx⟩ := da_x2_ex hk t1 t2
        have hc2 := da_xt_b hk t1
        exact hmv _ (by omega) a' b' hx
    · refine xw_successor hk ht hu hv (by omega) (fun r hr => ?_)
      rcases hr with ⟨r1, r2⟩ | ⟨u', v', r1, r2, r3, r4⟩
      · rw [r1]
        refine br_t da_neg1 (nm_r (nI_1 mv) (ih (mv + 1) seen qp qc qf qd qg qb (by omega) (by omega) hq e hci (fun m hm' a b w => ?_)))
        rcases Nat.lt_or_ge m mv with z | z
        · exact hmv m z a b w
        · have : m = mv := by omega
          subst this
          exact absurd w (r2 a b)
      · rw [r3]
        have uniq : ∀ a b, da_x2 N L B nd u v mv a b → a * 64 + b = u' * 64 + v' := by
          intro a b w
          have one : ∀ {x c ch y z}, da_x1 N L B nd x c ch y → da_x1 N L B nd x c ch z → y = z := by
            intro x c ch y z w1 w2
            rcases w1 with ⟨p1, k1, j1, a1, a2, a3, a4, a5⟩ | ⟨p1, p2, _⟩
            · rcases w2 with ⟨p1', k2, j2, b1, b2, b3, b4, b5⟩ | ⟨p1', _⟩
              · have p1 := ht.2.2.2.2.2.1 k1 j1 a1 a2
                have p2 := ht.2.2.2.2.2.1 k2 j2 b1 b2
                have q1 := ht.2.2.2.1 k1 (j1 + 1) a1 a2
                have q2 := ht.2.2.2.1 k2 (j2 + 1) b1 b2
                rw [← a3, a4] at p1
                rw [← b3, b4] at p2
                rw [a5, b5]
                exact (nI_eq (by omega) (by omega)).mp (p1.symm.trans p2)
              · exact absurd p1 p1'
            · rcases w2 with ⟨p1', _⟩ | ⟨_, p2', _⟩
              · exact absurd p1' p1
              · rw [p2, p2']
          rw [one w.1 r4.1, one w.2 r4.2]
        refine br_f (nI_pos (by omega)) ?_
        refine xw_enqF (by omega) (by omega) (fun z => da_qi_lt hci.1 (by omega) z) hqc (fun z => ?_) (fun z => ?_)
        · refine nm_r (nI_1 mv) (ih (mv + 1) seen qp qc qf qd qg qb (by omega) (by omega) hq e hci (fun m hm' a b w => ?_))
          rcases Nat.lt_or_ge m mv with y | y
          · exact hmv m y a b w
          · have : m = mv := by omega
            subst this
            rw [uniq a b w]
            rcases hci.1.2.1 (u' * 64 + v') (by omega) with y | ⟨y, _⟩
            · exact absurd y z
            · exact y
        · refine nm_r (nI_1 mv) (ih (mv + 1) _ _ (qc + 1) _ _ _ _ (by omega) (by omega) (by omega) ?_ (da_ci_add hci (by omega) h57 r1 r2 z) (fun m hm' a b w => ?_))
          · rw [pk_un (by omega)]; exact e
          · by_cases y : a * 64 + b = u' * 64 + v'
            · rw [y]; exact pk_us
            · rw [pk_un y]
              rcases Nat.lt_or_ge m mv with y' | y'
              · exact hmv m y' a b w
              · have : m = mv := by omega
                subst this
                exact absurd (uniq a b w) y
theorem xw_co67 {N : Nat} {L : Nat → Nat} {B : Nat → Nat → Nat} {nd : Nat → Nat → Nat} {nc : Nat} {post : SX → Prop} (hk : da_ok N L B) (ht : da_tri N L B nd nc xa_nextNode xa_wordEnd) {St : Nat → Prop}
    (h : ∀ seen qp qc qf qd qg qb, da_ci (da_xt N L B nd) St nc qc seen qp qc → post (xf_maxWords, xf_maxLength, xf_textCapacity, xf_wordCount, nI nc, xf_found, xf_codeDelay, xf_witnessSize, nI qc, xf_textSize, xf_decoderOn, xf_decoderDone, xf_readSize, xf_settledAt, xf_settledSize, xa_wordCodes, xa_wordLengths, xa_nextNode, xa_wordEnd, xa_wordDelays, xa_witness, xa_witnessWords, xa_witnessCounts, xa_witnessRest, xa_startNodes, seen, xa_pairHeight, qp, qf, qd, qg, qb, xa_text, xa_ways, xa_openNode, xa_lastWord, xa_wordsTo, xa_settled)) :
    ∀ f hd seen qp qc qf qd qg qb, hd ≤ qc → 4096 - hd < f → da_ci (da_xt N L B nd) St nc hd seen qp qc →
      wX_collectPairs_67 post f (nI hd) xf_maxWords xf_maxLength xf_textCapacity xf_wordCount (nI nc) xf_found xf_codeDelay xf_witnessSize (nI qc) xf_textSize xf_decoderOn xf_decoderDone xf_readSize xf_settledAt xf_settledSize xa_wordCodes xa_wordLengths xa_nextNode xa_wordEnd xa_wordDelays xa_witness xa_witnessWords xa_witnessCounts xa_witnessRest xa_startNodes seen xa_pairHeight qp qf qd qg qb xa_text xa_ways xa_openNode xa_lastWord xa_wordsTo xa_settled := by
  intro f
  induction f with
  | zero => intro hd seen qp qc qf qd qg qb _ h0; omega
  | succ f ih =>
    intro hd seen qp qc qf qd qg qb hh hf hci
    have hqc := da_qi_le hci.1
    have fin : hd = qc → post (xf_maxWords, xf_maxLength, xf_textCapacity, xf_wordCount, nI nc, xf_found, xf_codeDelay, xf_witnessSize, nI qc, xf_textSize, xf_decoderOn, xf_decoderDone, xf_readSize, xf_settledAt, xf_settledSize, xa_wordCodes, xa_wordLengths, xa_nextNode, xa_wordEnd, xa_wordDelays, xa_witness, xa_witnessWords, xa_witnessCounts, xa_witnessRest, xa_startNodes, seen, xa_pairHeight, qp, qf, qd, qg, qb, xa_text, xa_ways, xa_openNode, xa_lastWord, xa_wordsTo, xa_settled) := by
      intro e; subst e
      exact h seen qp hd qf qd qg qb hci
    refine pk_le 4096 hd (fun q => fin (by omega)) (fun q => ?_)
    refine pk_le qc hd (fun q => fin (by omega)) (fun q => ?_)
    have c1 : (nI hd).toNatClampNeg = hd := nI_clamp (by omega)
    obtain ⟨u, v, hu, hv, e, _⟩ := hci.1.1 hd q
    refine ⟨vp_in_nI (by omega) (by omega), nm_r (e' := nI (u * 64 + v)) (by rw [c1]; exact e) ⟨9, ?_⟩⟩
    refine xw_co93 hk ht hu hv (fun seen' qp' qc' qf' qd' qg' qb' h1 h2 => ?_) 9 0 seen qp qc qf qd qg qb (by omega) (by omega) q e hci (fun m hm => by omega)
    exact ih (hd + 1) seen' qp' qc' qf' qd' qg' qb' (by omega) (by omega) h2
theorem xw_co33 {N : Nat} {L : Nat → Nat} {B : Nat → Nat → Nat} {nd : Nat → Nat → Nat} {nc : Nat} {post : SX → Prop} (hk : da_ok N L B) (ht : da_tri N L B nd nc xa_nextNode xa_wordEnd) {x : Int64}
    (h : ∀ seen qp qc qf qd qg qb, da_ci (da_xt N L B nd) (fun u => u < nc ∧ da_mem x u) nc qc seen qp qc → post (xf_maxWords, xf_maxLength, xf_textCapacity, xf_wordCount, nI nc, xf_found, xf_codeDelay, xf_witnessSize, nI qc, xf_textSize, xf_decoderOn, xf_decoderDone, xf_readSize, xf_settledAt, xf_settledSize, xa_wordCodes, xa_wordLengths, xa_nextNode, xa_wordEnd, xa_wordDelays, xa_witness, xa_witnessWords, xa_witnessCounts, xa_witnessRest, xa_startNodes, seen, xa_pairHeight, qp, qf, qd, qg, qb, xa_text, xa_ways, xa_openNode, xa_lastWord, xa_wordsTo, xa_settled)) :
    ∀ f i seen qp qc qf qd qg qb, i ≤ nc → nc - i < f → da_qi nc seen qp qc → (∀ u, u < i → da_mem x u → seen u = 1) →
      wX_collectPairs_33 post x f (nI i) xf_maxWords xf_maxLength xf_textCapacity xf_wordCount (nI nc) xf_found xf_codeDelay xf_witnessSize (nI qc) xf_textSize xf_decoderOn xf_decoderDone xf_readSize xf_settledAt xf_settledSize xa_wordCodes xa_wordLengths xa_nextNode xa_wordEnd xa_wordDelays xa_witness xa_witnessWords xa_witnessCounts xa_witnessRest xa_startNodes seen xa_pairHeight qp qf qd qg qb xa_text xa_ways xa_openNode xa_lastWord xa_wordsTo xa_settled := by
  have h57 := ht.2.2.1
  intro f
  induction f with
  | zero => intro i seen qp qc qf qd qg qb _ h0; omega
  | succ f ih =>
    intro i seen qp qc qf qd qg qb hi hf hqi hs
    have hqc := da_qi_le hqi
    refine pk_le nc i (fun q => ?_) (fun q => ?_)
    · have : i = nc := by omega
      subst this
      exact ⟨4097, xw_co67 hk ht h 4097 0 seen qp qc qf qd qg qb (by omega) (by omega) ⟨hqi, fun u hu => hs u hu.1 hu.2, fun i hi => by omega⟩⟩
    · refine br_c (fun z => nm_r (nI_1 i) ?_) (fun z => ?_)
      · refine ih (i + 1) seen qp qc qf qd qg qb (by omega) (by omega) hqi (fun u hu hm => ?_)
        rcases Nat.lt_or_ge u i with y | y
        · exact hs u y hm
        · have : u = i := by omega
          subst this
          exact absurd hm ((da_bit0 (by omega)).mp z)
      · refine xw_enqR (by omega) (fun z => da_qi_lt hqi (by omega) z) hqc (fun z => ?_) (fun z => ?_)
        · refine nm_r (nI_1 i) (ih (i + 1) seen qp qc qf qd qg qb (by omega) (by omega) hqi (fun u hu hm => ?_))
          rcases Nat.lt_or_ge u i with y | y
          · exact hs u y hm
          · have : u = i := by omega
            subst this
            rcases hqi.2.1 u (by omega) with y | ⟨y, _⟩
            · exact absurd y z
            · exact y
        · have ad := da_qi_add (u := 0) (v := i) hqi h57 (by omega) q (by rw [Nat.zero_mul, Nat.zero_add]; exact z)
          rw [Nat.zero_mul, Nat.zero_add] at ad
          refine nm_r (nI_1 i) (ih (i + 1) _ _ (qc + 1) _ _ _ _ (by omega) (by omega) ad (fun u hu hm => ?_))
          by_cases y : u = i
          · subst y; exact pk_us
          · rw [pk_un y]; exact hs u (by omega) hm
theorem xw_co8 {N W : Nat} {L : Nat → Nat} {B : Nat → Nat → Nat} {nd : Nat → Nat → Nat} {nc qc : Nat} {post : SX → Prop} (hW : W ≤ 8) (hk : da_ok N L B) (ht : da_tri N L B nd nc xa_nextNode xa_wordEnd) (hq : da_qi nc xa_pairSeen xa_queuePair qc)
    (h : ∀ seen qp qc qf qd qg qb, da_ci (da_xt N L B nd) (fun u => u < nc ∧ ∃ k, k < W ∧ da_mem (xa_startNodes k) u) nc qc seen qp qc → post (xf_maxWords, xf_maxLength, xf_textCapacity, nI W, nI nc, xf_found, xf_codeDelay, xf_witnessSize, nI qc, xf_textSize, xf_decoderOn, xf_decoderDone, xf_readSize, xf_settledAt, xf_settledSize, xa_wordCodes, xa_wordLengths, xa_nextNode, xa_wordEnd, xa_wordDelays, xa_witness, xa_witnessWords, xa_witnessCounts, xa_witnessRest, xa_startNodes, seen, xa_pairHeight, qp, qf, qd, qg, qb, xa_text, xa_ways, xa_openNode, xa_lastWord, xa_wordsTo, xa_settled)) :
    ∀ f i x, i ≤ W → W - i < f → (∀ u, da_mem x u ↔ ∃ k, k < i ∧ da_mem (xa_startNodes k) u) →
      wX_collectPairs_8 post xf_maxWords xf_maxLength xf_textCapacity (nI W) (nI nc) xf_found xf_codeDelay xf_witnessSize (nI qc) xf_textSize xf_decoderOn xf_decoderDone xf_readSize xf_settledAt xf_settledSize xa_wordCodes xa_wordLengths xa_nextNode xa_wordEnd xa_wordDelays xa_witness xa_witnessWords xa_witnessCounts xa_witnessRest xa_startNodes xa_pairSeen xa_pairHeight xa_queuePair xa_queueFrom xa_queueDepth xa_queueGroup xa_queueBit xa_text xa_ways xa_openNode xa_lastWord xa_wordsTo xa_settled f x (nI i) := by
  intro f
  induction f with
  | zero => intro i x _ h0; omega
  | succ f ih =>
    intro i x hi hf hx
    refine pk_le W i (fun q => ?_) (fun q => ?_)
    · have : i = W := by omega
      subst this
      refine ⟨nc + 1, xw_co33 hk ht (x := x) (fun seen qp qc qf qd qg qb hc => h seen qp qc qf qd qg qb ⟨hc.1, fun u hu => hc.2.1 u ⟨hu.1, (hx u).mpr hu.2⟩, hc.2.2⟩) (nc + 1) 0 _ _ qc _ _ _ _ (by omega) (by omega) hq (fun u hu => by omega)⟩
    · have c1 : (nI i).toNatClampNeg = i := nI_clamp (by omega)
      rw [c1]
      refine ⟨vp_in_nI (by omega) (by omega), nm_e (nm_r (nI_1 i) (ih (i + 1) _ (by omega) (by omega) (fun u => ?_)))⟩
      rw [da_mem_or, hx]
      constructor
      · rintro (⟨k, a, b⟩ | a)
        · exact ⟨k, by omega, b⟩
        · exact ⟨i, by omega, a⟩
      · rintro ⟨k, a, b⟩
        rcases Nat.lt_or_ge k i with y | y
        · exact Or.inl ⟨k, y, b⟩
        · have : k = i := by omega
          subst this
          exact Or.inr b
theorem xw_collectPairs {N W : Nat} {L : Nat → Nat} {B : Nat → Nat → Nat} {nd : Nat → Nat → Nat} {nc : Nat} {post : SX → Prop} (hW : W ≤ 8) (hk : da_ok N L B) (ht : da_tri N L B nd nc xa_nextNode xa_wordEnd)
    (h : ∀ seen qp qc qf qd qg qb, da_ci (da_xt N L B nd) (fun u => u < nc ∧ ∃ k, k < W ∧ da_mem (xa_startNodes k) u) nc qc seen qp qc → post (xf_maxWords, xf_maxLength, xf_textCapacity, nI W, nI nc, xf_found, xf_codeDelay, xf_witnessSize, nI qc, xf_textSize, xf_decoderOn, xf_decoderDone, xf_readSize, xf_settledAt, xf_settledSize, xa_wordCodes, xa_wordLengths, xa_nextNode, xa_wordEnd, xa_wordDelays, xa_witness, xa_witnessWords, xa_witnessCounts, xa_witnessRest, xa_startNodes, seen, xa_pairHeight, qp, qf, qd, qg, qb, xa_text, xa_ways, xa_openNode, xa_lastWord, xa_wordsTo, xa_settled)) :
    wpX_collectPairs post (xf_maxWords, xf_maxLength, xf_textCapacity, nI W, nI nc, xf_found, xf_codeDelay, xf_witnessSize, xf_queueCount, xf_textSize, xf_decoderOn, xf_decoderDone, xf_readSize, xf_settledAt, xf_settledSize, xa_wordCodes, xa_wordLengths, xa_nextNode, xa_wordEnd, xa_wordDelays, xa_witness, xa_witnessWords, xa_witnessCounts, xa_witnessRest, xa_startNodes, xa_pairSeen, xa_pairHeight, xa_queuePair, xa_queueFrom, xa_queueDepth, xa_queueGroup, xa_queueBit, xa_text, xa_ways, xa_openNode, xa_lastWord, xa_wordsTo, xa_settled) := by
  unfold wpX_collectPairs
  refine xw_clearPairs (fun seen hs => ⟨W + 1, ?_⟩)
  refine xw_co8 hW hk ht (qc := 0) ?_ h (W + 1) 0 0 (by omega) (by omega) (fun u => ⟨fun w => absurd w (da_mem_0 u), fun ⟨k, a, _⟩ => by omega⟩)
  refine ⟨fun i hi => by omega, fun p hp => Or.inl (hs p hp), da_cn_0 (fun k hk => ?_)⟩
  show ¬ seen k = 1
  rw [hs k hk]; exact da_01
end
end
section
/-! heights of all pairs in the queue; delays -/
def da_ex (T : Nat → Nat → Nat → Prop) (h u v : Nat) : Prop := da_lv T h u v ∧ ¬ da_lv T (h + 1) u v
def da_kn (qp ph : Nat → Int32) (i : Nat) : Prop := ¬ ph (qp i).toNatClampNeg = -1
noncomputable def da_K (qp ph : Nat → Int32) (qc : Nat) : Nat := da_cn (da_kn qp ph) qc
def da_hi (T : Nat → Nat → Nat → Prop) (nc K : Nat) (ph : Nat → Int32) : Prop := ∀ u v, u < nc → v < nc → ph (u * 64 + v) = -1 ∨ ∃ h, ph (u * 64 + v) = nI h ∧ h < K ∧ da_ex T h u v
def da_sk (T : Nat → Nat → Nat → Prop) (nc : Nat) (qp ph : Nat → Int32) (i : Nat) : Prop := da_kn qp ph i ∨ ∃ u v c u' v', u < nc ∧ v < nc ∧ qp i = nI (u * 64 + v) ∧ T u c u' ∧ T v c v' ∧ ph (u' * 64 + v') = -1
def da_hf (T : Nat → Nat → Nat → Prop) (nc : Nat) (qp : Nat → Int32) (qc : Nat) (ph : Nat → Int32) : Prop := ∀ i, i < qc → ∀ u v, u < nc → v < nc → qp i = nI (u * 64 + v) → (∃ h, ph (u * 64 + v) = nI h ∧ h < 4096 ∧ da_ex T h u v) ∨ (ph (u * 64 + v) = -1 ∧ ∀ m, da_lv T m u v)
theorem da_hf_of {T : Nat → Nat → Nat → Prop} {St : Nat → Prop} {nc qc : Nat} {seen qp ph : Nat → Int32} (h57 : nc ≤ 57) (hT : ∀ u c u', T u c u' → u' < nc) (hc : da_ci T St nc qc seen qp qc) (hi : da_hi T nc (da_K qp ph qc) ph) (hs : ∀ i, i < qc → da_sk T nc qp ph i) : da_hf T nc qp qc ph := by
  have hqc := da_qi_le hc.1
  have hK : da_K qp ph qc ≤ qc := da_cn_le _ _
  have inf : ∀ m i u v, i < qc → u < nc → v < nc → qp i = nI (u * 64 + v) → ph (u * 64 + v) = -1 → da_lv T m u v := by
    intro m
    induction m with
    | zero => intro i u v _ _ _ _ _; exact trivial
    | succ m ih =>
      intro i u v h1 hu hv e z
      rcases hs i h1 with q | ⟨a, b, c, a', b', ha, hb, e', t1, t2, z'⟩
      · exfalso; apply q
        rw [e, nI_clamp (by omega)]; exact z
      · have e3 : a * 64 + b = u * 64 + v := (nI_eq (by omega) (by omega)).mp (e'.symm.trans e)
        have ea : a = u := by omega
        have eb : b = v := by omega
        subst ea; subst eb
        have la := hT _ _ _ t1
        have lb := hT _ _ _ t2
        have s1 := hc.2.2 i h1 a b hu hv e c a' b' t1 t2
        rcases hc.1.2.1 (a' * 64 + b') (by omega) with y | ⟨_, i', y1, y2⟩
        · rw [y] at s1; exact absurd s1 da_01
        · exact ⟨c, a', b', t1, t2, ih i' a' b' y1 la lb y2 z'⟩
  intro i h1 u v hu hv e
  rcases hi u v hu hv with z | ⟨h, z1, z2, z3⟩
  · exact Or.inr ⟨z, fun m => inf m i u v h1 hu hv e z⟩
  · exact Or.inl ⟨h, z1, by omega, z3⟩
theorem da_nm1 : nI 0 - 1 = -1 := by decide
theorem da_pm (i : Nat) : nI i + (-1) = nI i - 1 := by rw [Int32.sub_eq_add_neg]
section
variable {xf_maxWords xf_maxLength xf_textCapacity xf_wordCount xf_nodeCount xf_found xf_codeDelay xf_witnessSize xf_queueCount xf_textSize xf_decoderOn xf_decoderDone xf_readSize xf_settledAt xf_settledSize : Int32} {xa_wordCodes xa_wordLengths xa_nextNode xa_wordEnd xa_wordDelays xa_witness xa_witnessWords xa_witnessCounts xa_witnessRest xa_pairSeen xa_pairHeight xa_queuePair xa_queueFrom xa_queueDepth xa_queueGroup xa_queueBit xa_text xa_ways xa_openNode xa_lastWord xa_wordsTo xa_settled : Nat → Int32} {xa_startNodes : Nat → Int64}
theorem xw_hn4 {N : Nat} {L : Nat → Nat} {B : Nat → Nat → Nat} {nd : Nat → Nat → Nat} {nc : Nat} {post : Int32 → Prop} (hk : da_ok N L B) (ht : da_tri N L B nd nc xa_nextNode xa_wordEnd) {u v K : Nat} (hu : u < nc) (hv : v < nc) (hK : K ≤ 4096) (hi : da_hi (da_xt N L B nd) nc K xa_pairHeight)
    (hneg : (∃ c u' v', da_xt N L B nd u c u' ∧ da_xt N L B nd v c v' ∧ xa_pairHeight (u' * 64 + v') = -1) → post (-1)) (hpos : ∀ h, h ≤ K → da_ex (da_xt N L B nd) h u v → post (nI h)) :
    ∀ f mv h, mv ≤ 8 → 8 - mv < f → h ≤ K → da_lv (da_xt N L B nd) h u v → (∀ m, m < mv → ∀ u' v', da_x2 N L B nd u v m u' v' → ∃ h', h' + 1 ≤ h ∧ ¬ da_lv (da_xt N L B nd) (h' + 1) u' v') →
      wX_heightFromNext_4 post (nI (u * 64 + v)) xf_maxWords xf_maxLength xf_textCapacity xf_wordCount xf_nodeCount xf_found xf_codeDelay xf_witnessSize xf_queueCount xf_textSize xf_decoderOn xf_decoderDone xf_readSize xf_settledAt xf_settledSize xa_wordCodes xa_wordLengths xa_nextNode xa_wordEnd xa_wordDelays xa_witness xa_witnessWords xa_witnessCounts xa_witnessRest xa_startNodes xa_pairSeen xa_pairHeight xa_queuePair xa_queueFrom xa_queueDepth xa_queueGroup xa_queueBit xa_text xa_ways xa_openNode xa_lastWord xa_wordsTo xa_settled f (nI h) (nI mv) := by
  have h57 := ht.2.2.1
  intro f
  induction f with
  | zero => intro mv h _ h0; omega
  | succ f ih =>
    intro mv h hm hf hh hl hmv
    refine pk_le 8 mv (fun q => ?_) (fun q => ?_)
    · refine hpos h hh ⟨hl, ?_⟩
      rintro ⟨c, u', v', t1, t2, t3⟩
      obtain ⟨ch, hch, hx⟩ := da_x2_ex hk t1 t2
      have hc2 := da_xt_b hk t1
      obtain ⟨h', p1, p2⟩ := hmv _ (by omega) u' v' hx
      exact p2 (da_lv_dn _ _ _ _ (by omega) t3)
    · refine xw_successor hk ht hu hv (by omega) (fun r hr => ?_)
      rcases hr with ⟨r1, r2⟩ | ⟨u', v', r1, r2, r3, r4⟩
      · rw [r1]
        refine br_t da_neg1 (nm_r (nI_1 mv) (ih (mv + 1) h (by omega) (by omega) hh hl (fun m hm' a b w => ?_)))
        rcases Nat.lt_or_ge m mv with z | z
        · exact hmv m z a b w
        · have : m = mv := by omega
          subst this
          exact absurd w (r2 a b)
      · rw [r3]
        have i1 : vp_in (nI (u' * 64 + v')) 4096 := vp_in_nI (by omega) (by omega)
        have c1 : (nI (u' * 64 + v')).toNatClampNeg = u' * 64 + v' := nI_clamp (by omega)
        have t1 := da_x1_xt hk r4.1
        have t2 := da_x1_xt hk r4.2
        refine br_f (nI_pos (by omega)) ⟨i1, ?_⟩
        rw [c1]
        rcases hi u' v' r1 r2 with z | ⟨h', z1, z2, z3⟩
        · rw [z]
          exact br_f (by decide) (hneg ⟨_, u', v', t1, t2, z⟩)
        · have uniq : ∀ a b, da_x2 N L B nd u v mv a b → a = u' ∧ b = v' := by
            intro a b w
            have one : ∀ {x c ch y z}, da_x1 N L B nd x c ch y → da_x1 N L B nd x c ch z → y = z := by
              intro x c ch y z w1 w2
              rcases w1 with ⟨p1, k1, j1, a1, a2, a3, a4, a5⟩ | ⟨p1, p2, _⟩
              · rcases w2 with ⟨p1', k2, j2, b1, b2, b3, b4, b5⟩ | ⟨p1', _⟩
                · have p1 := ht.2.2.2.2.2.1 k1 j1 a1 a2
                  have p2 := ht.2.2.2.2.2.1 k2 j2 b1 b2
                  have q1 := ht.2.2.2.1 k1 (j1 + 1) a1 a2
                  have q2 := ht.2.2.2.1 k2 (j2 + 1) b1 b2
                  rw [← a3, a4] at p1
                  rw [← b3, b4] at p2
                  rw [a5, b5]
                  exact (nI_eq (by omega) (by omega)).mp (p1.symm.trans p2)
                · exact absurd p1 p1'
              · rcases w2 with ⟨p1', _⟩ | ⟨_, p2', _⟩
                · exact absurd p1' p1
                · rw [p2, p2']
            exact ⟨one w.1 r4.1, one w.2 r4.2⟩
          rw [z1, nI_1]
          refine br_t (nI_pos' (by omega)) ⟨i1, ?_⟩
          refine pk_le (h' + 1) h (fun y => ?_) (fun y => ?_)
          · refine nm_r (nI_1 mv) (ih (mv + 1) h (by omega) (by omega) hh hl (fun m hm' a b w => ?_))
            rcases Nat.lt_or_ge m mv with y' | y'
            · exact hmv m y' a b w
            · have : m = mv := by omega
              subst this
              obtain ⟨ea, eb⟩ := uniq a b w
              subst ea; subst eb
              exact ⟨h', y, z3.2⟩
          · refine ⟨i1, nm_e (nm_r (nI_1 mv) (ih (mv + 1) (h' + 1) (by omega) (by omega) (by omega) ⟨_, u', v', t1, t2, z3.1⟩ (fun m hm' a b w => ?_)))⟩
            rcases Nat.lt_or_ge m mv with y' | y'
            · obtain ⟨h2, p1, p2⟩ := hmv m y' a b w
              exact ⟨h2, by omega, p2⟩
            · have : m = mv := by omega
              subst this
              obtain ⟨ea, eb⟩ := uniq a b w
              subst ea; subst eb
              exact ⟨h', by omega, z3.2⟩
theorem xw_fh47 {N : Nat} {L : Nat → Nat} {B : Nat → Nat → Nat} {nd : Nat → Nat → Nat} {nc qc r : Nat} {post : SX → Prop} {J26 : Int32 → Int32 → (Nat → Int32) → (Nat → Int32) → (Nat → Int32) → (Nat → Int32) → (Nat → Int32) → (Nat → Int32) → (Nat → Int32) → (Nat → Int32) → (Nat → Int32) → (Nat → Int64) → (Nat → Int32) → (Nat → Int32) → (Nat → Int32) → (Nat → Int32) → (Nat → Int32) → (Nat → Int32) → (Nat → Int32) → (Nat → Int32) → (Nat → Int32) → (Nat → Int32) → (Nat → Int32) → (Nat → Int32) → (Nat → Int32) → Prop} (hk : da_ok N L B) (ht : da_tri N L B nd nc xa_nextNode xa_wordEnd) (hqi : da_qi nc xa_pairSeen xa_queuePair qc)
    (hJ : ∀ fl ph, da_hi (da_xt N L B nd) nc (da_K xa_queuePair ph qc) ph → ((fl = 0 ∧ ∀ j, j < qc → da_sk (da_xt N L B nd) nc xa_queuePair ph j) ∨ (fl = 1 ∧ r + 1 ≤ da_K xa_queuePair ph qc)) → J26 fl (nI (r + 1)) xa_wordCodes xa_wordLengths xa_nextNode xa_wordEnd xa_wordDelays xa_witness xa_witnessWords xa_witnessCounts xa_witnessRest xa_startNodes xa_pairSeen ph xa_queuePair xa_queueFrom xa_queueDepth xa_queueGroup xa_queueBit xa_text xa_ways xa_openNode xa_lastWord xa_wordsTo xa_settled) :
    ∀ f i fl ph, i ≤ qc → i < f → r ≤ da_K xa_queuePair ph qc → da_hi (da_xt N L B nd) nc (da_K xa_queuePair ph qc) ph → ((fl = 0 ∧ ∀ j, i ≤ j → j < qc → da_sk (da_xt N L B nd) nc xa_queuePair ph j) ∨ (fl = 1 ∧ r + 1 ≤ da_K xa_queuePair ph qc)) →
      wX_findHeights_47 post J26 (nI r) xf_maxWords xf_maxLength xf_textCapacity xf_wordCount (nI nc) xf_found xf_codeDelay xf_witnessSize (nI qc) xf_textSize xf_decoderOn xf_decoderDone xf_readSize xf_settledAt xf_settledSize f fl (nI i - 1) xa_wordCodes xa_wordLengths xa_nextNode xa_wordEnd xa_wordDelays xa_witness xa_witnessWords xa_witnessCounts xa_witnessRest xa_startNodes xa_pairSeen ph xa_queuePair xa_queueFrom xa_queueDepth xa_queueGroup xa_queueBit xa_text xa_ways xa_openNode xa_lastWord xa_wordsTo xa_settled := by
  have h57 := ht.2.2.1
  have hqc := da_qi_le hqi
  intro f
  induction f with
  | zero => intro i fl ph _ h0; omega
  | succ f ih =>
    intro i fl ph hi hf hr hh hfl
    have hK : da_K xa_queuePair ph qc ≤ qc := da_cn_le _ _
    cases i with
    | zero =>
      rw [da_nm1]
      refine br_t da_neg1 (nm_r (nI_1 r) (hJ fl ph hh ?_))
      rcases hfl with ⟨a, b⟩ | b
      · exact Or.inl ⟨a, fun j hj => b j (by omega) hj⟩
      · exact Or.inr b
    | succ i =>
      rw [nI_pred]
      obtain ⟨u, v, hu, hv, e, _⟩ := hqi.1 i (by omega)
      have c1 : (nI i).toNatClampNeg = i := nI_clamp (by omega)
      have c2 : (nI (u * 64 + v)).toNatClampNeg = u * 64 + v := nI_clamp (by omega)
      have i2 : vp_in (nI (u * 64 + v)) 4096 := vp_in_nI (by omega) (by omega)
      refine br_f (nI_pos (by omega)) ⟨vp_in_nI (by omega) (by omega), nm_r (e' := nI (u * 64 + v)) (by rw [c1]; exact e) ⟨i2, ?_⟩⟩
      rw [c2]
      have keep : da_sk (da_xt N L B nd) nc xa_queuePair ph i → wX_findHeights_47 post J26 (nI r) xf_maxWords xf_maxLength xf_textCapacity xf_wordCount (nI nc) xf_found xf_codeDelay xf_witnessSize (nI qc) xf_textSize xf_decoderOn xf_decoderDone xf_readSize xf_settledAt xf_settledSize f fl (nI i - 1) xa_wordCodes xa_wordLengths xa_nextNode xa_wordEnd xa_wordDelays xa_witness xa_witnessWords xa_witnessCounts xa_witnessRest xa_startNodes xa_pairSeen ph xa_queuePair xa_queueFrom xa_queueDepth xa_queueGroup xa_queueBit xa_text xa_ways xa_openNode xa_lastWord xa_wordsTo xa_settled := by
        intro hs
        refine ih i fl ph (by omega) (by omega) hr hh ?_
        rcases hfl with ⟨a, b⟩ | b
        · refine Or.inl ⟨a, fun j h1 h2 => ?_⟩
          rcases Nat.lt_or_ge i j with z | z
          · exact b j (by omega) h2
          · have : j = i := by omega
            subst this; exact hs
        · exact Or.inr b
      have kni : da_kn xa_queuePair ph i ↔ ¬ ph (u * 64 + v) = -1 := by
        unfold da_kn; rw [e, c2]
      rcases hh u v hu hv with z | ⟨h, z1, z2, z3⟩
      · rw [z]
        refine br_f (by decide) ?_
        refine ⟨9, xw_hn4 hk ht hu hv (K := da_K xa_queuePair ph qc) (by omega) hh (fun w => ?_) (fun h w1 w2 => ?_) 9 0 0 (by omega) (by omega) (by omega) trivial (fun m hm => by omega)⟩
        · obtain ⟨c, u', v', t1, t2, t3⟩ := w
          exact br_t da_neg1 (nm_r (da_pm i) (keep (Or.inr ⟨u, v, c, u', v', hu, hv, e, t1, t2, t3⟩)))
        · refine br_f (nI_pos (by omega)) ⟨i2, nm_e (nm_r (da_pm i) ?_)⟩
          have lt : da_K xa_queuePair ph qc < da_K xa_queuePair (upd ph (u * 64 + v) (nI h)) qc := by
            refine da_cn_lt (a := i) (by rw [kni]; exact fun y => y z) ?_ (fun k hk' y => ?_) (by omega)
            · unfold da_kn
              rw [e, c2, pk_us]
              exact da_n1 h (by omega)
            · unfold da_kn at y ⊢
              by_cases e2 : (xa_queuePair k).toNatClampNeg = u * 64 + v
              · rw [e2, pk_us]; exact da_n1 h (by omega)
              · rw [pk_un e2]; exact y
          refine ih i 1 _ (by omega) (by omega) (by omega) ?_ (Or.inr ⟨rfl, by omega⟩)
          intro a b ha hb
          by_cases e2 : a * 64 + b = u * 64 + v
          · have ea : a = u := by omega
            have eb : b = v := by omega
            subst ea; subst eb
            rw [pk_us]
            exact Or.inr ⟨h, rfl, by omega, w2⟩
          · rw [pk_un e2]
            rcases hh a b ha hb with y | ⟨h2, y1, y2, y3⟩
            · exact Or.inl y
            · exact Or.inr ⟨h2, y1, by omega, y3⟩
      · rw [z1]
        refine br_t (nI_pos' (by omega)) (nm_r (da_pm i) (keep (Or.inl ?_)))
        rw [kni, z1]
        exact da_n1 h (by omega)
theorem xw_fh26 {N : Nat} {L : Nat → Nat} {B : Nat → Nat → Nat} {nd : Nat → Nat → Nat} {nc qc : Nat} {post : SX → Prop} (hk : da_ok N L B) (ht : da_tri N L B nd nc xa_nextNode xa_wordEnd) (hqi : da_qi nc xa_pairSeen xa_queuePair qc)
    (h : ∀ ph, da_hi (da_xt N L B nd) nc (da_K xa_queuePair ph qc) ph → (∀ j, j < qc → da_sk (da_xt N L B nd) nc xa_queuePair ph j) → post (xf_maxWords, xf_maxLength, xf_textCapacity, xf_wordCount, nI nc, xf_found, xf_codeDelay, xf_witnessSize, nI qc, xf_textSize, xf_decoderOn, xf_decoderDone, xf_readSize, xf_settledAt, xf_settledSize, xa_wordCodes, xa_wordLengths, xa_nextNode, xa_wordEnd, xa_wordDelays, xa_witness, xa_witnessWords, xa_witnessCounts, xa_witnessRest, xa_startNodes, xa_pairSeen, ph, xa_queuePair, xa_queueFrom, xa_queueDepth, xa_queueGroup, xa_queueBit, xa_text, xa_ways, xa_openNode, xa_lastWord, xa_wordsTo, xa_settled)) :
    ∀ f r fl ph, r ≤ qc + 1 → qc + 1 - r < f → da_hi (da_xt N L B nd) nc (da_K xa_queuePair ph qc) ph → ((fl = 0 ∧ ∀ j, j < qc → da_sk (da_xt N L B nd) nc xa_queuePair ph j) ∨ (fl = 1 ∧ r ≤ da_K xa_queuePair ph qc)) →
      wX_findHeights_26 post xf_maxWords xf_maxLength xf_textCapacity xf_wordCount (nI nc) xf_found xf_codeDelay xf_witnessSize (nI qc) xf_textSize xf_decoderOn xf_decoderDone xf_readSize xf_settledAt xf_settledSize f fl (nI r) xa_wordCodes xa_wordLengths xa_nextNode xa_wordEnd xa_wordDelays xa_witness xa_witnessWords xa_witnessCounts xa_witnessRest xa_startNodes xa_pairSeen ph xa_queuePair xa_queueFrom xa_queueDepth xa_queueGroup xa_queueBit xa_text xa_ways xa_openNode xa_lastWord xa_wordsTo xa_settled := by
  have hqc := da_qi_le hqi
  intro f
  induction f with
  | zero => intro r fl ph _ h0; omega
  | succ f ih =>
    intro r fl ph hr hf hh hfl
    have hK : da_K xa_queuePair ph qc ≤ qc := da_cn_le _ _
    refine pk_lt qc r (fun q => ?_) (fun q => ?_)
    · rcases hfl with ⟨a, b⟩ | ⟨a, b⟩
      · exact h ph hh b
      · omega
    · rcases hfl with ⟨a, b⟩ | ⟨a, b⟩
      · rw [a]
        exact br_t rfl (h ph hh b)
      · rw [a]
        refine br_f da_10 (nm_e ⟨qc + 1, ?_⟩)
        refine xw_fh47 hk ht hqi (fun fl' ph' h1 h2 => ?_) (qc + 1) qc 0 ph (by omega) (by omega) b hh (Or.inl ⟨rfl, fun j _ _ => by omega⟩)
        exact ih (r + 1) fl' ph' (by omega) (by omega) h1 h2
theorem xw_fh2 {N : Nat} {L : Nat → Nat} {B : Nat → Nat → Nat} {nd : Nat → Nat → Nat} {nc qc : Nat} {post : SX → Prop} (hk : da_ok N L B) (ht : da_tri N L B nd nc xa_nextNode xa_wordEnd) (hqi : da_qi nc xa_pairSeen xa_queuePair qc)
    (h : ∀ ph, da_hi (da_xt N L B nd) nc (da_K xa_queuePair ph qc) ph → (∀ j, j < qc → da_sk (da_xt N L B nd) nc xa_queuePair ph j) → post (xf_maxWords, xf_maxLength, xf_textCapacity, xf_wordCount, nI nc, xf_found, xf_codeDelay, xf_witnessSize, nI qc, xf_textSize, xf_decoderOn, xf_decoderDone, xf_readSize, xf_settledAt, xf_settledSize, xa_wordCodes, xa_wordLengths, xa_nextNode, xa_wordEnd, xa_wordDelays, xa_witness, xa_witnessWords, xa_witnessCounts, xa_witnessRest, xa_startNodes, xa_pairSeen, ph, xa_queuePair, xa_queueFrom, xa_queueDepth, xa_queueGroup, xa_queueBit, xa_text, xa_ways, xa_openNode, xa_lastWord, xa_wordsTo, xa_settled)) :
    ∀ f i ph, i ≤ 4096 → 4096 - i < f → (∀ p, p < i → ph p = -1) →
      wX_findHeights_2 post xf_maxWords xf_maxLength xf_textCapacity xf_wordCount (nI nc) xf_found xf_codeDelay xf_witnessSize (nI qc) xf_textSize xf_decoderOn xf_decoderDone xf_readSize xf_settledAt xf_settledSize f (nI i) xa_wordCodes xa_wordLengths xa_nextNode xa_wordEnd xa_wordDelays xa_witness xa_witnessWords xa_witnessCounts xa_witnessRest xa_startNodes xa_pairSeen ph xa_queuePair xa_queueFrom xa_queueDepth xa_queueGroup xa_queueBit xa_text xa_ways xa_openNode xa_lastWord xa_wordsTo xa_settled := by
  have h57 := ht.2.2.1
  intro f
  induction f with
  | zero => intro i ph _ h0; omega
  | succ f ih =>
    intro i ph hi hf hp
    refine pk_le 4096 i (fun q => ?_) (fun q => ?_)
    · have : i = 4096 := by omega
      subst this
      exact ⟨qc + 2, xw_fh26 hk ht hqi h (qc + 2) 0 1 ph (by omega) (by omega) (fun u v hu hv => Or.inl (hp _ (by omega))) (Or.inr ⟨rfl, Nat.zero_le _⟩)⟩
    · have i1 : vp_in (nI i) 4096 := vp_in_nI (by omega) (by omega)
      have c1 : (nI i).toNatClampNeg = i := nI_clamp (by omega)
      rw [c1]
      refine ⟨i1, nm_e (nm_r (nI_1 i) (ih (i + 1) _ (by omega) (by omega) (fun p hp' => ?_)))⟩
      by_cases e : p = i
      · subst e; exact pk_us
      · rw [pk_un e]; exact hp p (by omega)
theorem xw_findHeights {N : Nat} {L : Nat → Nat} {B : Nat → Nat → Nat} {nd : Nat → Nat → Nat} {St : Nat → Prop} {nc qc : Nat} {post : SX → Prop} (hk : da_ok N L B) (ht : da_tri N L B nd nc xa_nextNode xa_wordEnd) (hci : da_ci (da_xt N L B nd) St nc qc xa_pairSeen xa_queuePair qc)
    (h : ∀ ph, da_hf (da_xt N L B nd) nc xa_queuePair qc ph → post (xf_maxWords, xf_maxLength, xf_textCapacity, xf_wordCount, nI nc, xf_found, xf_codeDelay, xf_witnessSize, nI qc, xf_textSize, xf_decoderOn, xf_decoderDone, xf_readSize, xf_settledAt, xf_settledSize, xa_wordCodes, xa_wordLengths, xa_nextNode, xa_wordEnd, xa_wordDelays, xa_witness, xa_witnessWords, xa_witnessCounts, xa_witnessRest, xa_startNodes, xa_pairSeen, ph, xa_queuePair, xa_queueFrom, xa_queueDepth, xa_queueGroup, xa_queueBit, xa_text, xa_ways, xa_openNode, xa_lastWord, xa_wordsTo, xa_settled)) :
    wpX_findHeights post (xf_maxWords, xf_maxLength, xf_textCapacity, xf_wordCount, nI nc, xf_found, xf_codeDelay, xf_witnessSize, nI qc, xf_textSize, xf_decoderOn, xf_decoderDone, xf_readSize, xf_settledAt, xf_settledSize, xa_wordCodes, xa_wordLengths, xa_nextNode, xa_wordEnd, xa_wordDelays, xa_witness, xa_witnessWords, xa_witnessCounts, xa_witnessRest, xa_startNodes, xa_pairSeen, xa_pairHeight, xa_queuePair, xa_queueFrom, xa_queueDepth, xa_queueGroup, xa_queueBit, xa_text, xa_ways, xa_openNode, xa_lastWord, xa_wordsTo, xa_settled) := by
  have hT : ∀ u c u', da_xt N L B nd u c u' → u' < nc := by
    intro u c u' w
    rcases (da_xt_iff hk).mp w with q | ⟨q, _⟩
    · exact da_dp_lt ht q
    · have := ht.2.1; omega
  exact ⟨4097, xw_fh2 hk ht hci.1 (fun ph h1 h2 => h ph (da_hf_of ht.2.2.1 hT hci h1 h2)) 4097 0 xa_pairHeight (by omega) (by omega) (fun p hp => by omega)⟩
end
/-! delays -/
def da_dl (A : Nat → Prop) (d : Nat) : Prop := ((∀ m, A m) ∧ d = 1000) ∨ (¬ A d ∧ ∀ m, m < d → A m)
theorem da_dl_u {A : Nat → Prop} {d d' : Nat} (h : da_dl A d) (h' : da_dl A d') : d = d' := by
  rcases h with ⟨a, e⟩ | ⟨a, b⟩
  · rcases h' with ⟨_, e'⟩ | ⟨a', _⟩
    · rw [e, e']
    · exact absurd (a d') a'
  · rcases h' with ⟨a', _⟩ | ⟨a', b'⟩
    · exact absurd (a' d) a
    · rcases Nat.lt_trichotomy d d' with q | q | q
      · exact absurd (b' d q) a
      · exact q
      · exact absurd (b d' q) a'
theorem da_dl_c {A A' : Nat → Prop} (e : ∀ m, A m ↔ A' m) {d : Nat} (h : da_dl A d) : da_dl A' d := by
  rcases h with ⟨a, q⟩ | ⟨a, b⟩
  · exact Or.inl ⟨fun m => (e m).mp (a m), q⟩
  · exact Or.inr ⟨fun w => a ((e d).mpr w), fun m hm => (e m).mp (b m hm)⟩
def da_mx (d : Nat → Nat) : Nat → Nat
  | 0 => 0
  | n + 1 => if d n ≤ da_mx d n then da_mx d n else d n
theorem da_mx_e {d d' : Nat → Nat} : ∀ {n : Nat}, (∀ k, k < n → d k = d' k) → da_mx d n = da_mx d' n
  | 0, _ => rfl
  | n + 1, h => by
    show (if d n ≤ da_mx d n then da_mx d n else d n) = (if d' n ≤ da_mx d' n then da_mx d' n else d' n)
    rw [da_mx_e (fun k hk => h k (by omega)), h n (by omega)]
theorem da_mx_le {d : Nat → Nat} {C : Nat} : ∀ {n : Nat}, (∀ k, k < n → d k ≤ C) → da_mx d n ≤ C
  | 0, _ => Nat.zero_le _
  | n + 1, h => by
    have := da_mx_le (n := n) (fun k hk => h k (by omega))
    have := h n (by omega)
    show (if d n ≤ da_mx d n then da_mx d n else d n) ≤ C
    split <;> omega
theorem da_mx_ge {d : Nat → Nat} : ∀ {n : Nat} {k : Nat}, k < n → d k ≤ da_mx d n
  | 0, k, h => by omega
  | n + 1, k, h => by
    show d k ≤ (if d n ≤ da_mx d n then da_mx d n else d n)
    rcases Nat.lt_or_ge k n with z | z
    · have := da_mx_ge (d := d) z
      split <;> omega
    · have : k = n := by omega
      subst this
      split <;> omega
theorem da_mx_ex {d : Nat → Nat} : ∀ {n : Nat}, 0 < da_mx d n → ∃ k, k < n ∧ d k = da_mx d n
  | 0, h => by simp [da_mx] at h
  | n + 1, h => by
    by_cases z : d n ≤ da_mx d n
    · have e : da_mx d (n + 1) = da_mx d n := if_pos z
      rw [e] at h ⊢
      obtain ⟨k, a, b⟩ := da_mx_ex h
      exact ⟨k, by omega, b⟩
    · have e : da_mx d (n + 1) = d n := if_neg z
      exact ⟨n, by omega, e.symm⟩
def da_AX (N : Nat) (L : Nat → Nat) (B : Nat → Nat → Nat) (nd : Nat → Nat → Nat) (k m : Nat) : Prop := ∃ u, da_w (da_xk N L B nd k) (da_sg (B k) 0 (L k)) 0 u ∧ da_lv (da_xt N L B nd) m 0 u
section
variable {xf_maxWords xf_maxLength xf_textCapacity xf_wordCount xf_nodeCount xf_found xf_codeDelay xf_witnessSize xf_queueCount xf_textSize xf_decoderOn xf_decoderDone xf_readSize xf_settledAt xf_settledSize : Int32} {xa_wordCodes xa_wordLengths xa_nextNode xa_wordEnd xa_wordDelays xa_witness xa_witnessWords xa_witnessCounts xa_witnessRest xa_pairSeen xa_pairHeight xa_queuePair xa_queueFrom xa_queueDepth xa_queueGroup xa_queueBit xa_text xa_ways xa_openNode xa_lastWord xa_wordsTo xa_settled : Nat → Int32} {xa_startNodes : Nat → Int64}
theorem xw_do4 {T : Nat → Nat → Nat → Prop} {nc k : Nat} {S : Nat → Prop} {post : Int32 → Prop} (hk8 : k < 8) (h57 : nc ≤ 57) (hS : ∀ u, u < nc → (da_mem (xa_startNodes k) u ↔ S u)) (hS2 : ∀ u, S u → u < nc)
    (hh : ∀ u, u < nc → S u → (∃ h, xa_pairHeight u = nI h ∧ h < 4096 ∧ da_ex T h 0 u) ∨ (xa_pairHeight u = -1 ∧ ∀ m, da_lv T m 0 u))
    (h : ∀ d, d ≤ 4097 → da_dl (fun m => ∃ u, S u ∧ da_lv T m 0 u) d → post (nI d)) :
    ∀ f i d, i ≤ nc → nc - i < f → d ≤ 4097 → (∀ u, u < i → S u → ¬ da_lv T d 0 u) → (d = 0 ∨ ∃ u, S u ∧ da_lv T (d - 1) 0 u) →
      wX_delayOf_4 post (nI k) xf_maxWords xf_maxLength xf_textCapacity xf_wordCount (nI nc) xf_found xf_codeDelay xf_witnessSize xf_queueCount xf_textSize xf_decoderOn xf_decoderDone xf_readSize xf_settledAt xf_settledSize xa_wordCodes xa_wordLengths xa_nextNode xa_wordEnd xa_wordDelays xa_witness xa_witnessWords xa_witnessCounts xa_witnessRest xa_startNodes xa_pairSeen xa_pairHeight xa_queuePair xa_queueFrom xa_queueDepth xa_queueGroup xa_queueBit xa_text xa_ways xa_openNode xa_lastWord xa_wordsTo xa_settled f (nI d) (nI i) := by
  intro f
  induction f with
  | zero => intro i d _ h0; omega
  | succ f ih =>
    intro i d hi hf hd h1 h2
    have ck : (nI k).toNatClampNeg = k := nI_clamp (by omega)
    have ci : (nI i).toNatClampNeg = i := nI_clamp (by omega)
    refine pk_le nc i (fun q => ?_) (fun q => ?_)
    · refine h d hd (Or.inr ⟨?_, fun m hm => ?_⟩)
      · rintro ⟨u, a, b⟩
        exact h1 u (by have := hS2 u a; omega) a b
      · rcases h2 with z | ⟨u, a, b⟩
        · omega
        · exact ⟨u, a, da_lv_dn _ _ _ _ (by omega) b⟩
    · rw [ck, ci]
      refine ⟨vp_in_nI (by omega) (by omega), br_c (fun z => nm_r (nI_1 i) ?_) (fun z => ?_)⟩
      · refine ih (i + 1) d (by omega) (by omega) hd (fun u hu hs => ?_) h2
        rcases Nat.lt_or_ge u i with y | y
        · exact h1 u y hs
        · have : u = i := by omega
          subst this
          exact absurd ((hS u q).mpr hs) ((da_bit0 (by omega)).mp z)
      · have hm : da_mem (xa_startNodes k) i := by
          rcases Classical.em (da_mem (xa_startNodes k) i) with w | w
          · exact w
          · exact absurd ((da_bit0 (by omega)).mpr w) z
        have hs := (hS i q).mp hm
        refine ⟨vp_in_nI (by omega) (by omega), ?_⟩
        rcases hh i q hs with ⟨g, g1, g2, g3, g4⟩ | ⟨g1, g2⟩
        · refine nm_r g1 (br_t (nI_pos' (by omega)) ?_)
          rw [nI_1]
          refine pk_le (g + 1) d (fun y => nm_r (nI_1 i) (ih (i + 1) d (by omega) (by omega) hd (fun u hu hs' => ?_) h2)) (fun y => nm_e (nm_r (nI_1 i) (ih (i + 1) (g + 1) (by omega) (by omega) (by omega) (fun u hu hs' => ?_) (Or.inr ⟨i, hs, g3⟩))))
          · rcases Nat.lt_or_ge u i with y' | y'
            · exact h1 u y' hs'
            · have : u = i := by omega
              subst this
              exact fun w => g4 (da_lv_dn _ _ _ _ (by omega) w)
          · rcases Nat.lt_or_ge u i with y' | y'
            · exact fun w => h1 u y' hs' (da_lv_dn _ _ _ _ (by omega) w)
            · have : u = i := by omega
              subst this
              exact g4
        · refine nm_r g1 (br_f (by decide) ?_)
          exact h 1000 (by omega) (Or.inl ⟨fun m => ⟨i, hs, g2 m⟩, rfl⟩)
theorem xw_fd42 {W nc : Nat} {A : Nat → Nat → Prop} {post : SX → Prop} (hW : W ≤ 8)
    (hd : ∀ k wd cd, k < W → ∀ post : Int32 → Prop, (∀ d, d ≤ 4097 → da_dl (A k) d → post (nI d)) → wpX_delayOf post (xf_maxWords, xf_maxLength, xf_textCapacity, nI W, nI nc, xf_found, cd, xf_witnessSize, xf_queueCount, xf_textSize, xf_decoderOn, xf_decoderDone, xf_readSize, xf_settledAt, xf_settledSize, xa_wordCodes, xa_wordLengths, xa_nextNode, xa_wordEnd, wd, xa_witness, xa_witnessWords, xa_witnessCounts, xa_witnessRest, xa_startNodes, xa_pairSeen, xa_pairHeight, xa_queuePair, xa_queueFrom, xa_queueDepth, xa_queueGroup, xa_queueBit, xa_text, xa_ways, xa_openNode, xa_lastWord, xa_wordsTo, xa_settled) (nI k))
    (h : ∀ d wd, (∀ k, k < W → wd k = nI (d k) ∧ d k ≤ 4097 ∧ da_dl (A k) (d k)) → post (xf_maxWords, xf_maxLength, xf_textCapacity, nI W, nI nc, xf_found, nI (da_mx d W), xf_witnessSize, xf_queueCount, xf_textSize, xf_decoderOn, xf_decoderDone, xf_readSize, xf_settledAt, xf_settledSize, xa_wordCodes, xa_wordLengths, xa_nextNode, xa_wordEnd, wd, xa_witness, xa_witnessWords, xa_witnessCounts, xa_witnessRest, xa_startNodes, xa_pairSeen, xa_pairHeight, xa_queuePair, xa_queueFrom, xa_queueDepth, xa_queueGroup, xa_queueBit, xa_text, xa_ways, xa_openNode, xa_lastWord, xa_wordsTo, xa_settled)) :
    ∀ f i d wd, i ≤ W → W - i < f → (∀ k, k < i → wd k = nI (d k) ∧ d k ≤ 4097 ∧ da_dl (A k) (d k)) →
      wX_findDelays_42 post xf_maxWords xf_maxLength xf_textCapacity (nI W) (nI nc) xf_found xf_witnessSize xf_queueCount xf_textSize xf_decoderOn xf_decoderDone xf_readSize xf_settledAt xf_settledSize f (nI i) (nI (da_mx d i)) xa_wordCodes xa_wordLengths xa_nextNode xa_wordEnd wd xa_witness xa_witnessWords xa_witnessCounts xa_witnessRest xa_startNodes xa_pairSeen xa_pairHeight xa_queuePair xa_queueFrom xa_queueDepth xa_queueGroup xa_queueBit xa_text xa_ways xa_openNode xa_lastWord xa_wordsTo xa_settled := by
  intro f
  induction f with
  | zero => intro i d wd _ h0; omega
  | succ f ih =>
    intro i d wd hi hf hw
    have ci : (nI i).toNatClampNeg = i := nI_clamp (by omega)
    refine pk_le W i (fun q => ?_) (fun q => ?_)
    · have : i = W := by omega
      subst this
      exact h d wd hw
    · refine hd i wd _ q _ (fun e he hdl => ?_)
      rw [ci]
      refine ⟨vp_in_nI (by omega) (by omega), nm_e ?_⟩
      have mxl : da_mx d i ≤ 4097 := da_mx_le (fun k hk => (hw k hk).2.1)
      have hw' : ∀ k, k < i + 1 → upd wd i (nI e) k = nI ((fun x => if x = i then e else d x) k) ∧ (fun x => if x = i then e else d x) k ≤ 4097 ∧ da_dl (A k) ((fun x => if x = i then e else d x) k) := by
        intro k hk
        by_cases z : k = i
        · subst z
          simp only [if_true, pk_us]
          exact ⟨trivial, he, hdl⟩
        · simp only [if_neg z, pk_un z]
          exact hw k (by omega)
      have em : da_mx (fun x => if x = i then e else d x) (i + 1) = if e ≤ da_mx d i then da_mx d i else e := by
        have e1 : da_mx (fun x => if x = i then e else d x) i = da_mx d i := da_mx_e (fun k hk => if_neg (by omega))
        show (if (if i = i then e else d i) ≤ da_mx (fun x => if x = i then e else d x) i then da_mx (fun x => if x = i then e else d x) i else (if i = i then e else d i)) = _
        rw [e1, if_pos rfl]
      have st := ih (i + 1) _ _ (by omega) (by omega) hw'
      rw [em] at st
      refine pk_le e (da_mx d i) (fun y => nm_r (nI_1 i) ?_) (fun y => nm_r (nI_1 i) ?_)
      · rw [if_pos y] at st; exact st
      · rw [if_neg (by omega)] at st; exact st
theorem xw_findDelays {N : Nat} {nd : Nat → Nat → Nat} {nc : Nat} {post : SX → Prop} (hc : da_cok N xa_wordCodes xa_wordLengths) (ht : da_tri N (da_L xa_wordLengths) (da_B xa_wordCodes xa_wordLengths) nd nc xa_nextNode xa_wordEnd)
    (h : ∀ d wd sn ph seen qp qc qf qd qg qb, (∀ k, k < N → wd k = nI (d k) ∧ d k ≤ 4097 ∧ da_dl (da_AX N (da_L xa_wordLengths) (da_B xa_wordCodes xa_wordLengths) nd k) (d k)) → post (xf_maxWords, xf_maxLength, xf_textCapacity, nI N, nI nc, xf_found, nI (da_mx d N), xf_witnessSize, nI qc, xf_textSize, xf_decoderOn, xf_decoderDone, xf_readSize, xf_settledAt, xf_settledSize, xa_wordCodes, xa_wordLengths, xa_nextNode, xa_wordEnd, wd, xa_witness, xa_witnessWords, xa_witnessCounts, xa_witnessRest, sn, seen, ph, qp, qf, qd, qg, qb, xa_text, xa_ways, xa_openNode, xa_lastWord, xa_wordsTo, xa_settled)) :
    wpX_findDelays post (xf_maxWords, xf_maxLength, xf_textCapacity, nI N, nI nc, xf_found, xf_codeDelay, xf_witnessSize, xf_queueCount, xf_textSize, xf_decoderOn, xf_decoderDone, xf_readSize, xf_settledAt, xf_settledSize, xa_wordCodes, xa_wordLengths, xa_nextNode, xa_wordEnd, xa_wordDelays, xa_witness, xa_witnessWords, xa_witnessCounts, xa_witnessRest, xa_startNodes, xa_pairSeen, xa_pairHeight, xa_queuePair, xa_queueFrom, xa_queueDepth, xa_queueGroup, xa_queueBit, xa_text, xa_ways, xa_openNode, xa_lastWord, xa_wordsTo, xa_settled) := by
  have hok := da_cok_ok hc
  have hN := hc.1
  have h57 := ht.2.2.1
  have main : ∀ f i sn, i ≤ N → N - i < f → (∀ k, k < i → ∀ u, da_mem (sn k) u ↔ da_w (da_xk N (da_L xa_wordLengths) (da_B xa_wordCodes xa_wordLengths) nd k) (da_sg (da_B xa_wordCodes xa_wordLengths k) 0 (da_L xa_wordLengths k)) 0 u) →
      wX_findDelays_2 post xf_maxWords xf_maxLength xf_textCapacity (nI N) (nI nc) xf_found xf_codeDelay xf_witnessSize xf_queueCount xf_textSize xf_decoderOn xf_decoderDone xf_readSize xf_settledAt xf_settledSize f (nI i) xa_wordCodes xa_wordLengths xa_nextNode xa_wordEnd xa_wordDelays xa_witness xa_witnessWords xa_witnessCounts xa_witnessRest sn xa_pairSeen xa_pairHeight xa_queuePair xa_queueFrom xa_queueDepth xa_queueGroup xa_queueBit xa_text xa_ways xa_openNode xa_lastWord xa_wordsTo xa_settled := by
    intro f
    induction f with
    | zero => intro i sn _ h0; omega
    | succ f ih =>
      intro i sn hi hf hs
      refine pk_le N i (fun q => ?_) (fun q => ?_)
      · have : i = N := by omega
        subst this
        refine xw_collectPairs hN hok ht (fun seen qp qc qf qd qg qb hci => ?_)
        refine xw_findHeights hok ht hci (fun ph hf => ⟨i + 1, ?_⟩)
        refine xw_fd42 (A := da_AX i (da_L xa_wordLengths) (da_B xa_wordCodes xa_wordLengths) nd) hN (fun k wd cd hkN post hp => ?_) (fun d wd hd => h d wd sn ph seen qp qc qf qd qg qb hd) (i + 1) 0 (fun _ => 0) _ (by omega) (by omega) (fun k hk => by omega)
        refine ⟨nc + 1, ?_⟩
        refine xw_do4 (S := fun u => da_w (da_xk i (da_L xa_wordLengths) (da_B xa_wordCodes xa_wordLengths) nd k) (da_sg (da_B xa_wordCodes xa_wordLengths k) 0 (da_L xa_wordLengths k)) 0 u) (by omega) h57 (fun u hu => hs k hkN u) (fun u hu => da_xkw_lt ht _ 0 u ht.2.1 hu) (fun u hu hsu => ?_) (fun d hd1 hd2 => hp d hd1 hd2) (nc + 1) 0 0 (by omega) (by omega) (by omega) (fun u hu => by omega) (Or.inl rfl)
        have s1 := hci.2.1 u ⟨hu, k, hkN, (hs k hkN u).mpr hsu⟩
        rcases hci.1.2.1 u (by omega) with y | ⟨_, j, y1, y2⟩
        · rw [y] at s1; exact absurd s1 da_01
        · have := hf j y1 0 u ht.2.1 hu (by rw [Nat.zero_mul, Nat.zero_add]; exact y2)
          rw [Nat.zero_mul, Nat.zero_add] at this
          exact this
      · have ci : (nI i).toNatClampNeg = i := nI_clamp (by omega)
        refine xw_nodesAfter hc ht q (fun y hy => ?_)
        rw [ci]
        refine ⟨vp_in_nI (by omega) (by omega), nm_e (nm_r (nI_1 i) (ih (i + 1) _ (by omega) (by omega) (fun k hk u => ?_)))⟩
        by_cases z : k = i
        · subst z
          rw [pk_uLs]; exact hy u
        · rw [pk_uLn z]; exact hs k (by omega) u
  exact ⟨N + 1, main (N + 1) 0 xa_startNodes (by omega) (by omega) (fun k hk => by omega)⟩
end
end
section
/-! the search for the least ambiguous string: pure part -/
def da_R (T : Nat → Nat → Nat → Prop) (w u v : Nat) : Prop := ∃ bs, (∀ c, c ∈ bs → c < 2) ∧ da_cd 1 bs = w ∧ da_w T bs 0 u ∧ da_w T bs 0 v
def da_dn (T : Nat → Nat → Nat → Prop) (nc : Nat) (C : Nat → Nat) (qp : Nat → Int32) (qc i c : Nat) : Prop := ∀ u v, u < nc → v < nc → qp i = nI (u * 64 + v) → ∀ u' v', T u c u' → T v c v' → (∃ j, j < qc ∧ qp j = nI (u' * 64 + v') ∧ C j ≤ 2 * C i + c) ∧ ¬ (u ≠ v ∧ u' = 0 ∧ v' = 0)
def da_wi (T : Nat → Nat → Nat → Prop) (nc lg F : Nat) (C : Nat → Nat) (seen qp qf qd qg qb : Nat → Int32) (qc : Nat) : Prop :=
  da_qi nc seen qp qc ∧ 0 < qc ∧ qp 0 = nI 0 ∧ C 0 = 1 ∧
  (∀ i, i < qc → ∀ u v, u < nc → v < nc → qp i = nI (u * 64 + v) → da_R T (C i) u v) ∧
  (∀ i, 1 ≤ i → i < qc → ∃ f b, f < i ∧ f < F ∧ b < 2 ∧ qf i = nI f ∧ qb i = nI b ∧ C i = 2 * C f + b) ∧
  (∀ i, i < qc → ∃ D, qd i = nI D ∧ D ≤ i ∧ 2 ^ D ≤ C i ∧ C i < 2 ^ (D + 1)) ∧
  (∀ i j, i ≤ j → j < qc → C i ≤ C j) ∧
  (∀ i, i < qc → ∃ g, g ≤ lg ∧ qg i = nI g) ∧
  (∀ i j, i < qc → j < qc → (qg i = qg j ↔ C i = C j))
def da_wm (T : Nat → Nat → Nat → Prop) (nc lg h e c i : Nat) (C : Nat → Nat) (seen qp qf qd qg qb : Nat → Int32) (qc : Nat) : Prop :=
  da_wi T nc lg e C seen qp qf qd qg qb qc ∧ h < e ∧ e ≤ qc ∧
  (∀ j, h ≤ j → j < e → C j = C h) ∧ (∀ j, e ≤ j → j < qc → C h < C j) ∧ (∀ j, j < h → C j < C h) ∧
  (∀ j, j < qc → C j ≤ 2 * C h + c) ∧ (∀ j, j < qc → (qg j = nI lg ↔ C j = 2 * C h + c)) ∧
  (∀ j, j < h → ∀ c', c' < 2 → da_dn T nc C qp qc j c') ∧
  (∀ j, h ≤ j → j < e → ∀ c', c' < c → da_dn T nc C qp qc j c') ∧
  (∀ j, h ≤ j → j < i → da_dn T nc C qp qc j c)
theorem da_snoc {P : List Nat → Prop} (h0 : P []) (hs : ∀ bs c, P bs → P (bs ++ [c])) : ∀ bs, P bs := by
  have key : ∀ l : List Nat, P l.reverse := by
    intro l
    induction l with
    | nil => exact h0
    | cons c l ih => rw [List.reverse_cons]; exact hs _ _ ih
  intro bs
  have := key bs.reverse
  rwa [List.reverse_reverse] at this
theorem da_cd_snoc (bs : List Nat) (w c : Nat) : da_cd w (bs ++ [c]) = 2 * da_cd w bs + c := by rw [da_cd_app]; rfl
theorem da_w_snoc {T : Nat → Nat → Nat → Prop} {bs : List Nat} {c s s' : Nat} : da_w T (bs ++ [c]) s s' ↔ ∃ x, da_w T bs s x ∧ T x c s' := by
  rw [da_w_app]
  constructor
  · rintro ⟨x, a, b⟩; exact ⟨x, a, da_w_1.mp b⟩
  · rintro ⟨x, a, b⟩; exact ⟨x, a, da_w_1.mpr b⟩
theorem da_w_lt {T : Nat → Nat → Nat → Prop} {nc : Nat} (h0 : 0 < nc) (hT : ∀ u c u', T u c u' → u' < nc) {bs : List Nat} : ∀ {u : Nat}, da_w T bs 0 u → u < nc := by
  refine da_snoc (P := fun bs => ∀ {u : Nat}, da_w T bs 0 u → u < nc) ?_ ?_ bs
  · intro u h; cases (show 0 = u from h); exact h0
  · intro bs c _ u h
    obtain ⟨x, _, b⟩ := da_w_snoc.mp h
    exact hT _ _ _ b
theorem da_w_b2 {T : Nat → Nat → Nat → Prop} (hT : ∀ s c s', T s c s' → c < 2) {bs : List Nat} {c s s' : Nat} (h : da_w T (bs ++ [c]) s s') : c < 2 := by
  obtain ⟨x, _, b⟩ := da_w_snoc.mp h
  exact hT _ _ _ b
section
variable {T : Nat → Nat → Nat → Prop} {nc lg h e c i : Nat} {C : Nat → Nat} {seen qp qf qd qg qb : Nat → Int32} {qc F : Nat}
theorem da_cpl (h0 : 0 < nc) (hT : ∀ u c u', T u c u' → u' < nc) (hb : ∀ u c u', T u c u' → c < 2) (hq : 0 < qc) (q0 : qp 0 = nI 0) (c0 : C 0 = 1) {w0 : Nat} (hd : ∀ j, j < qc → ∀ c, c < 2 → 2 * C j + c ≤ w0 → da_dn T nc C qp qc j c) :
    ∀ (bs : List Nat), da_cd 1 bs ≤ w0 → ∀ u v, da_w T bs 0 u → da_w T bs 0 v → ∃ j, j < qc ∧ qp j = nI (u * 64 + v) ∧ C j ≤ da_cd 1 bs := by
  refine da_snoc ?_ ?_
  · intro _ u v h1 h2
    cases (show 0 = u from h1); cases (show 0 = v from h2)
    exact ⟨0, hq, q0, by rw [c0]; exact Nat.le_refl _⟩
  · intro bs c ih hw u v h1 h2
    have hc := da_w_b2 hb h1
    obtain ⟨x, a1, a2⟩ := da_w_snoc.mp h1
    obtain ⟨y, b1, b2⟩ := da_w_snoc.mp h2
    rw [da_cd_snoc] at hw ⊢
    obtain ⟨j, d1, d2, d3⟩ := ih (by omega) x y a1 b1
    obtain ⟨⟨j', e1, e2, e3⟩, _⟩ := hd j d1 c hc (by omega) x y (da_w_lt h0 hT a1) (da_w_lt h0 hT b1) d2 u v a2 b2
    exact ⟨j', e1, e2, by omega⟩
theorem da_C1 (h : da_wi T nc lg F C seen qp qf qd qg qb qc) {j : Nat} (hj : j < qc) : 1 ≤ C j := by
  have := h.2.2.2.2.2.2.2.1 0 j (Nat.zero_le _) hj
  rw [h.2.2.2.1] at this
  exact this
/-- nothing found: no string has two walks apart -/
theorem da_none (h0 : 0 < nc) (h57 : nc ≤ 57) (hT : ∀ u c u', T u c u' → u' < nc) (hb : ∀ u c u', T u c u' → c < 2) (hw : da_wi T nc lg F C seen qp qf qd qg qb qc) (hd : ∀ j, j < qc → ∀ c', c' < 2 → da_dn T nc C qp qc j c') : ∀ bs, ¬ da_ax T bs := by
  rintro bs ⟨bs', c, s, t, e, hne, h1, h2, h3, h4⟩
  obtain ⟨j, a1, a2, _⟩ := da_cpl h0 hT hb hw.2.1 hw.2.2.1 hw.2.2.2.1 (w0 := da_cd 1 bs') (fun j hj c hc _ => hd j hj c hc) bs' (Nat.le_refl _) s t h1 h2
  exact (hd j a1 c (hb _ _ _ h3) s t (da_w_lt h0 hT h1) (da_w_lt h0 hT h2) a2 0 0 h3 h4).2 ⟨hne, rfl, rfl⟩
/-- what is found is the least -/
theorem da_least (h0 : 0 < nc) (h57 : nc ≤ 57) (hT : ∀ u c u', T u c u' → u' < nc) (hb : ∀ u c u', T u c u' → c < 2) (hc : c < 2) (hm : da_wm T nc lg h e c i C seen qp qf qd qg qb qc) (hi : h ≤ i) (hie : i < e) : ∀ z, da_ax T z → 2 * C i + c ≤ da_cd 1 z := by
  obtain ⟨hw, m1, m2, m3, m4, m5, m6, m7, m8, m9, m10⟩ := hm
  rintro z ⟨z', c', s, t, ez, hne, h1, h2, h3, h4⟩
  have hc' := hb _ _ _ h3
  have hC := da_C1 hw (show h < qc by omega)
  rw [ez, da_cd_snoc]
  rcases Nat.lt_or_ge (2 * da_cd 1 z' + c') (2 * C i + c) with lt | ge
  · exfalso
    have eC : C i = C h := m3 i hi hie
    obtain ⟨j, a1, a2, a3⟩ := da_cpl h0 hT hb hw.2.1 hw.2.2.1 hw.2.2.2.1 (w0 := 2 * C h - 1) (fun j hj d hd hle => by
      refine m8 j ?_ d hd
      rcases Nat.lt_or_ge j h with y | y
      · exact y
      · have := hw.2.2.2.2.2.2.2.1 h j y hj
        omega) z' (by omega) s t h1 h2
    have hs := da_w_lt h0 hT h1
    have ht := da_w_lt h0 hT h2
    rcases Nat.lt_or_ge j h with y | y
    · exact (m8 j y c' hc' s t hs ht a2 0 0 h3 h4).2 ⟨hne, rfl, rfl⟩
    · rcases Nat.lt_or_ge j e with y2 | y2
      · have := m3 j y y2
        exact (m9 j y y2 c' (by omega) s t hs ht a2 0 0 h3 h4).2 ⟨hne, rfl, rfl⟩
      · have := m4 j y2 a1
        omega
  · exact ge
theorem da_dn_up {C' : Nat → Nat} {qp' : Nat → Int32} {qc' j c : Nat} (hj : j < qc) (hq : qc ≤ qc') (hC : ∀ x, x < qc → C' x = C x) (hp : ∀ x, x < qc → qp' x = qp x) (hd : da_dn T nc C qp qc j c) : da_dn T nc C' qp' qc' j c := by
  intro u v hu hv e u' v' t1 t2
  rw [hp j hj] at e
  obtain ⟨⟨x, a1, a2, a3⟩, a4⟩ := hd u v hu hv e u' v' t1 t2
  exact ⟨⟨x, by omega, by rw [hp x a1]; exact a2, by rw [hC x a1, hC j hj]; exact a3⟩, a4⟩
def da_cs (C : Nat → Nat) (q w : Nat) : Nat → Nat := fun j => if j = q then w else C j
theorem da_cs_s {C : Nat → Nat} {q w : Nat} : da_cs C q w q = w := if_pos rfl
theorem da_cs_n {C : Nat → Nat} {q w j : Nat} (h : j ≠ q) : da_cs C q w j = C j := if_neg h
theorem da_wm_add (h57 : nc ≤ 57) (hc : c < 2) (hlg : lg < 2 ^ 31) (hm : da_wm T nc lg h e c i C seen qp qf qd qg qb qc) (hi : h ≤ i) (hie : i < e) {u v u' v' : Nat} (hu : u < nc) (hv : v < nc) (eq : qp i = nI (u * 64 + v)) (t1 : T u c u') (t2 : T v c v') (hu' : u' < nc) (hv' : v' < nc) (hs : seen (u' * 64 + v') = 0) :
    da_wm T nc lg h e c i (da_cs C qc (2 * C h + c)) (upd seen (u' * 64 + v') 1) (upd qp qc (nI (u' * 64 + v'))) (upd qf qc (nI i)) (upd qd qc (qd i + 1)) (upd qg qc (nI lg)) (upd qb qc (nI c)) (qc + 1) := by
  obtain ⟨⟨w1, w2, w3, w4, w5, w6, w7, w8, w9, w10⟩, m1, m2, m3, m4, m5, m6, m7, m8, m9, m10⟩ := hm
  have eC : C i = C h := m3 i hi hie
  have hC1 : 1 ≤ C h := by have := w8 0 h (Nat.zero_le _) (by omega); rw [w4] at this; exact this
  have cC : ∀ x, x < qc → da_cs C qc (2 * C h + c) x = C x := fun x hx => da_cs_n (by omega)
  have cp : ∀ x, x < qc → upd qp qc (nI (u' * 64 + v')) x = qp x := fun x hx => pk_un (by omega)
  have hqc := da_qi_lt w1 (by omega) hs
  have cases : ∀ x, x < qc + 1 → x < qc ∨ x = qc := fun x hx => by omega
  refine ⟨⟨da_qi_add w1 h57 hu' hv' hs, by omega, by rw [cp 0 w2]; exact w3, by rw [cC 0 w2]; exact w4, ?_, ?_, ?_, ?_, ?_, ?_⟩, m1, by omega, ?_, ?_, ?_, ?_, ?_, ?_, ?_, ?_⟩
  · intro x hx a b ha hb' ex
    rcases cases x hx with y | y
    · rw [cp x y] at ex; rw [cC x y]; exact w5 x y a b ha hb' ex
    · subst y
      rw [pk_us] at ex
      rw [da_cs_s]
      have e3 : u' * 64 + v' = a * 64 + b := (nI_eq (by omega) (by omega)).mp ex
      have ea : u' = a := by omega
      have eb : v' = b := by omega
      subst ea; subst eb
      obtain ⟨bs, p1, p2, p3, p4⟩ := w5 i (by omega) u v hu hv eq
      refine ⟨bs ++ [c], fun d hd => ?_, by rw [da_cd_snoc, p2, eC], da_w_snoc.mpr ⟨u, p3, t1⟩, da_w_snoc.mpr ⟨v, p4, t2⟩⟩
      rcases List.mem_append.mp hd with q | q
      · exact p1 d q
      · rw [List.mem_singleton.mp q]; exact hc
  · intro x h1 hx
    rcases cases x hx with y | y
    · obtain ⟨f, b, a1, a2, a3, a4, a5, a6⟩ := w6 x h1 y
      refine ⟨f, b, a1, a2, a3, by rw [pk_un (by omega)]; exact a4, by rw [pk_un (by omega)]; exact a5, by rw [cC x y, cC f (by omega)]; exact a6⟩
    · subst y
      exact ⟨i, c, by omega, hie, hc, pk_us, pk_us, by rw [da_cs_s, cC i (by omega), eC]⟩
  · intro x hx
    rcases cases x hx with y | y
    · obtain ⟨D, a1, a2, a3, a4⟩ := w7 x y
      exact ⟨D, by rw [pk_un (by omega)]; exact a1, a2, by rw [cC x y]; exact a3, by rw [cC x y]; exact a4⟩
    · subst y
      obtain ⟨D, a1, a2, a3, a4⟩ := w7 i (by omega)
      refine ⟨D + 1, by rw [pk_us, a1, nI_1], by omega, ?_, ?_⟩
      · rw [da_cs_s, Nat.pow_succ]; omega
      · rw [da_cs_s, Nat.pow_succ]; omega
  · intro x y hxy hy
    rcases cases y hy with z | z
    · rw [cC x (by omega), cC y z]; exact w8 x y hxy z
    · subst z
      rw [da_cs_s]
      rcases cases x (by omega) with z | z
      · rw [cC x z]; exact m6 x z
      · subst z; rw [da_cs_s]; exact Nat.le_refl _
  · intro x hx
    rcases cases x hx with y | y
    · rw [pk_un (by omega)]; exact w9 x y
    · subst y; exact ⟨lg, Nat.le_refl _, pk_us⟩
  · intro x y hx hy
    rcases cases x hx with z | z
    · rcases cases y hy with z' | z'
      · rw [pk_un (by omega), pk_un (by omega), cC x z, cC y z']; exact w10 x y z z'
      · subst z'
        rw [pk_un (by omega), pk_us, cC x z, da_cs_s]; exact m7 x z
    · subst z
      rcases cases y hy with z' | z'
      · rw [pk_us, pk_un (by omega), cC y z', da_cs_s]
        exact ⟨fun q => ((m7 y z').mp q.symm).symm, fun q => ((m7 y z').mpr q.symm).symm⟩
      · subst z'; exact ⟨fun _ => rfl, fun _ => rfl⟩
  · intro j h1 h2
    rw [cC j (by omega), cC h (by omega)]; exact m3 j h1 h2
  · intro j h1 h2
    rw [cC h (by omega)]
    rcases cases j h2 with y | y
    · rw [cC j y]; exact m4 j h1 y
    · subst y; rw [da_cs_s]; omega
  · intro j hj
    rw [cC j (by omega), cC h (by omega)]; exact m5 j hj
  · intro j hj
    rw [cC h (by omega)]
    rcases cases j hj with y | y
    · rw [cC j y]; exact m6 j y
    · subst y; rw [da_cs_s]; exact Nat.le_refl _
  · intro j hj
    rw [cC h (by omega)]
    rcases cases j hj with y | y
    · rw [pk_un (by omega), cC j y]; exact m7 j y
    · subst y; rw [pk_us, da_cs_s]; exact ⟨fun _ => rfl, fun _ => rfl⟩
  · intro j hj c' hc'
    exact da_dn_up (by omega) (by omega) cC cp (m8 j hj c' hc')
  · intro j h1 h2 c' hc'
    exact da_dn_up (by omega) (by omega) cC cp (m9 j h1 h2 c' hc')
  · intro j h1 h2
    exact da_dn_up (by omega) (by omega) cC cp (m10 j h1 h2)
/-- a turn's first bit -/
theorem da_wm_0 (hlg : lg + 1 < 2 ^ 31) (hw : da_wi T nc lg h C seen qp qf qd qg qb qc) (h1 : h < e) (h2 : e ≤ qc) (h3 : ∀ j, h ≤ j → j < e → C j = C h) (h4 : ∀ j, e ≤ j → j < qc → C h < C j) (h5 : ∀ j, j < h → C j < C h) (h8 : ∀ j, j < h → ∀ c', c' < 2 → da_dn T nc C qp qc j c') : da_wm T nc (lg + 1) h e 0 h C seen qp qf qd qg qb qc := by
  have hC := da_C1 hw (show h < qc by omega)
  have lt : ∀ j, j < qc → C j < 2 * C h := by
    intro j hj
    rcases Nat.eq_zero_or_pos j with z | z
    · subst z
      rw [hw.2.2.2.1]; omega
    · obtain ⟨f, b, a1, a2, a3, a4, a5, a6⟩ := hw.2.2.2.2.2.1 j z hj
      have := h5 f a2
      omega
  obtain ⟨w1, w2, w3, w4, w5, w6, w7, w8, w9, w10⟩ := hw
  refine ⟨⟨w1, w2, w3, w4, w5, ?_, w7, w8, ?_, w10⟩, h1, h2, h3, h4, h5, ?_, ?_, h8, fun j _ _ c' hc' => by omega, fun j a b => by omega⟩
  · intro i a b
    obtain ⟨f, b, a1, a2, a3, a4⟩ := w6 i a b
    exact ⟨f, b, a1, by omega, a3, a4⟩
  · intro i hi
    obtain ⟨g, a, b⟩ := w9 i hi
    exact ⟨g, by omega, b⟩
  · intro j hj; have := lt j hj; omega
  · intro j hj
    obtain ⟨g, a, b⟩ := w9 j hj
    constructor
    · intro q
      have : g = lg + 1 := (nI_eq (by omega) (by omega)).mp (b.symm.trans q)
      omega
    · intro q
      have := lt j hj; omega
/-- from the first bit to the second -/
theorem da_wm_1 (hlg : lg + 1 < 2 ^ 31) (hm : da_wm T nc lg h e 0 e C seen qp qf qd qg qb qc) : da_wm T nc (lg + 1) h e 1 h C seen qp qf qd qg qb qc := by
  obtain ⟨⟨w1, w2, w3, w4, w5, w6, w7, w8, w9, w10⟩, m1, m2, m3, m4, m5, m6, m7, m8, m9, m10⟩ := hm
  refine ⟨⟨w1, w2, w3, w4, w5, w6, w7, w8, ?_, w10⟩, m1, m2, m3, m4, m5, ?_, ?_, m8, ?_, fun j a b => by omega⟩
  · intro i hi
    obtain ⟨g, a, b⟩ := w9 i hi
    exact ⟨g, by omega, b⟩
  · intro j hj; have := m6 j hj; omega
  · intro j hj
    obtain ⟨g, a, b⟩ := w9 j hj
    constructor
    · intro q
      have : g = lg + 1 := (nI_eq (by omega) (by omega)).mp (b.symm.trans q)
      omega
    · intro q
      have := m6 j hj; omega
  · intro j a b c' hc'
    have : c' = 0 := by omega
    subst this
    exact m10 j a b
end
theorem da_log {x a b : Nat} (h1 : 2 ^ a ≤ x) (h2 : x < 2 ^ (a + 1)) (h3 : 2 ^ b ≤ x) (h4 : x < 2 ^ (b + 1)) : a = b := by
  rcases Nat.lt_trichotomy a b with q | q | q
  · have : 2 ^ (a + 1) ≤ 2 ^ b := Nat.pow_le_pow_right (by omega) q
    omega
  · exact q
  · have : 2 ^ (b + 1) ≤ 2 ^ a := Nat.pow_le_pow_right (by omega) q
    omega
theorem da_cd_bit : ∀ (bs : List Nat) (w : Nat), (∀ c, c ∈ bs → c < 2) → ∀ j, j < bs.length → da_cd w bs / 2 ^ (bs.length - 1 - j) % 2 = bs.getD j 0
  | [], _, _, j, h => by simp at h
  | c :: bs, w, hb, j, h => by
    have hb' : ∀ d, d ∈ bs → d < 2 := fun d hd => hb d (List.mem_cons_of_mem _ hd)
    have hc := hb c (List.mem_cons_self ..)
    cases j with
    | zero =>
      show da_cd (2 * w + c) bs / 2 ^ (bs.length + 1 - 1 - 0) % 2 = c
      have h1 := da_cd_lo bs (2 * w + c)
      have h2 := da_cd_hi bs (2 * w + c) hb'
      have e : da_cd (2 * w + c) bs / 2 ^ (bs.length + 1 - 1 - 0) = 2 * w + c := by
        rw [show bs.length + 1 - 1 - 0 = bs.length by omega]
        exact Nat.div_eq_of_lt_le h1 h2
      rw [e]; omega
    | succ j =>
      have := da_cd_bit bs (2 * w + c) hb' j (by simpa using h)
      show da_cd (2 * w + c) bs / 2 ^ (bs.length + 1 - 1 - (j + 1)) % 2 = bs.getD j 0
      rw [← this, show bs.length + 1 - 1 - (j + 1) = bs.length - 1 - j by omega]
end
section
/-! the search for the least ambiguous string: the walk -/
theorem da_byte {b : Nat} (h : b < 2) : vp_nar .byte (nI b).toInt8.toInt32 = nI b ∧ vp_nar .byte (nI b) = nI b := by
  have : b = 0 ∨ b = 1 := by omega
  rcases this with e | e
  · subst e; rw [vp_nar_byte, vp_nar_byte]; decide
  · subst e; rw [vp_nar_byte, vp_nar_byte]; decide
theorem da_xt_lt {N : Nat} {L : Nat → Nat} {B : Nat → Nat → Nat} {nd : Nat → Nat → Nat} {nc : Nat} {nx we : Nat → Int32} (hk : da_ok N L B) (ht : da_tri N L B nd nc nx we) : ∀ u c u', da_xt N L B nd u c u' → u' < nc := by
  intro u c u' w
  rcases (da_xt_iff hk).mp w with q | ⟨q, _⟩
  · exact da_dp_lt ht q
  · have := ht.2.1; omega
theorem da_x1_u {N : Nat} {L : Nat → Nat} {B : Nat → Nat → Nat} {nd : Nat → Nat → Nat} {nc : Nat} {nx we : Nat → Int32} (ht : da_tri N L B nd nc nx we) {x c ch y z : Nat} (w1 : da_x1 N L B nd x c ch y) (w2 : da_x1 N L B nd x c ch z) : y = z := by
  have h57 := ht.2.2.1
  rcases w1 with ⟨p1, k1, j1, a1, a2, a3, a4, a5⟩ | ⟨p1, p2, _⟩
  · rcases w2 with ⟨p1', k2, j2, b1, b2, b3, b4, b5⟩ | ⟨p1', _⟩
    · have p1 := ht.2.2.2.2.2.1 k1 j1 a1 a2
      have p2 := ht.2.2.2.2.2.1 k2 j2 b1 b2
      have q1 := ht.2.2.2.1 k1 (j1 + 1) a1 a2
      have q2 := ht.2.2.2.1 k2 (j2 + 1) b1 b2
      rw [← a3, a4] at p1
      rw [← b3, b4] at p2
      rw [a5, b5]
      exact (nI_eq (by omega) (by omega)).mp (p1.symm.trans p2)
    · exact absurd p1 p1'
  · rcases w2 with ⟨p1', _⟩ | ⟨_, p2', _⟩
    · exact absurd p1' p1
    · rw [p2, p2']
theorem da_ax232 {N : Nat} {L : Nat → Nat} {B : Nat → Nat → Nat} {nd : Nat → Nat → Nat} (hk : da_ok N L B) (hn : da_ndok N L B nd) {bs : List Nat} (hx : da_ax (da_xt N L B nd) bs) (mx : ∀ z, da_ax (da_xt N L B nd) z → da_cd 1 bs ≤ da_cd 1 z) : bs.length ≤ 232 := by
  obtain ⟨p, q, e, h⟩ := da_ax_ay hk ((da_ax_xt hk hn).mp hx)
  obtain ⟨z, h1, h2⟩ := da_ay232 hk h
  obtain ⟨b1, b2, e2, h3⟩ := da_ay_ax hk h1
  have h4 := (da_ax_xt hk hn).mpr h3
  have h5 := mx b1 h4
  rcases Nat.lt_or_ge b1.length bs.length with y | y
  · have := da_cd_lt y (da_ax_b (fun _ _ _ h => da_xt_b hk h) h4)
    omega
  · have : z.length = b1.length + b2.length := by rw [e2, List.length_append]
    omega
section
variable {xf_maxWords xf_maxLength xf_textCapacity xf_wordCount xf_nodeCount xf_found xf_codeDelay xf_witnessSize xf_queueCount xf_textSize xf_decoderOn xf_decoderDone xf_readSize xf_settledAt xf_settledSize : Int32} {xa_wordCodes xa_wordLengths xa_nextNode xa_wordEnd xa_wordDelays xa_witness xa_witnessWords xa_witnessCounts xa_witnessRest xa_pairSeen xa_pairHeight xa_queuePair xa_queueFrom xa_queueDepth xa_queueGroup xa_queueBit xa_text xa_ways xa_openNode xa_lastWord xa_wordsTo xa_settled : Nat → Int32} {xa_startNodes : Nat → Int64}
theorem xw_rw30 {T : Nat → Nat → Nat → Prop} {nc lg F : Nat} {C : Nat → Nat} {qc i c D : Nat} {post : SX → Prop} (hw : da_wi T nc lg F C xa_pairSeen xa_queuePair xa_queueFrom xa_queueDepth xa_queueGroup xa_queueBit qc) (hD : D < 256)
    (h : ∀ wt, (∀ j, j < D → wt j = nI (C i / 2 ^ (D - 1 - j) % 2)) → wt D = nI c → post (xf_maxWords, xf_maxLength, xf_textCapacity, xf_wordCount, xf_nodeCount, xf_found, xf_codeDelay, xf_witnessSize, xf_queueCount, xf_textSize, xf_decoderOn, xf_decoderDone, xf_readSize, xf_settledAt, xf_settledSize, xa_wordCodes, xa_wordLengths, xa_nextNode, xa_wordEnd, xa_wordDelays, wt, xa_witnessWords, xa_witnessCounts, xa_witnessRest, xa_startNodes, xa_pairSeen, xa_pairHeight, xa_queuePair, xa_queueFrom, xa_queueDepth, xa_queueGroup, xa_queueBit, xa_text, xa_ways, xa_openNode, xa_lastWord, xa_wordsTo, xa_settled)) :
    ∀ f p a wt, p < f → p ≤ D → a < qc → 2 ^ p ≤ C a → C a < 2 ^ (p + 1) → C a = C i / 2 ^ (D - p) → (∀ j, p ≤ j → j < D → wt j = nI (C i / 2 ^ (D - 1 - j) % 2)) → wt D = nI c →
      wX_recordWitness_30 post xf_maxWords xf_maxLength xf_textCapacity xf_wordCount xf_nodeCount xf_found xf_codeDelay xf_witnessSize xf_queueCount xf_textSize xf_decoderOn xf_decoderDone xf_readSize xf_settledAt xf_settledSize f (nI a) (nI p - 1) xa_wordCodes xa_wordLengths xa_nextNode xa_wordEnd xa_wordDelays wt xa_witnessWords xa_witnessCounts xa_witnessRest xa_startNodes xa_pairSeen xa_pairHeight xa_queuePair xa_queueFrom xa_queueDepth xa_queueGroup xa_queueBit xa_text xa_ways xa_openNode xa_lastWord xa_wordsTo xa_settled := by
  obtain ⟨w1, w2, w3, w4, w5, w6, w7, w8, w9, w10⟩ := hw
  have hqc := da_qi_le w1
  intro f
  induction f with
  | zero => intro p a wt h0; omega
  | succ f ih =>
    intro p a wt hf hp ha l1 l2 eC hj hd
    cases p with
    | zero =>
      rw [da_nm1]
      exact br_t da_neg1 (h wt (fun j hj' => hj j (by omega) hj') hd)
    | succ p =>
      rw [nI_pred]
      have a0 : 1 ≤ a := by
        rcases Nat.eq_zero_or_pos a with z | z
        · exfalso
          subst z
          rw [w4, Nat.pow_succ] at l1
          have := Nat.two_pow_pos p
          omega
        · exact z
      obtain ⟨f', b, p1, p2, p3, p4, p5, p6⟩ := w6 a a0 ha
      have ca : (nI a).toNatClampNeg = a := nI_clamp (by omega)
      have cp : (nI p).toNatClampNeg = p := nI_clamp (by omega)
      refine br_f (nI_pos (by omega)) (br_f (nI_nle a0 (by omega)) ⟨vp_in_nI (by omega) (by omega), vp_in_nI (by omega) (by omega), ?_⟩)
      rw [ca, cp, p5, (da_byte p3).2]
      refine nm_e ⟨vp_in_nI (by omega) (by omega), nm_r p4 (nm_r (da_pm p) ?_)⟩
      have eb : b = C i / 2 ^ (D - 1 - p) % 2 := by
        rw [show D - 1 - p = D - (p + 1) by omega, ← eC]; omega
      have ef : C f' = C i / 2 ^ (D - p) := by
        have : C f' = C a / 2 := by omega
        rw [this, eC, Nat.div_div_eq_div_mul, ← Nat.pow_succ, show (D - (p + 1)).succ = D - p by omega]
      rw [Nat.pow_succ] at l1 l2
      refine ih p f' _ (by omega) (by omega) (by omega) (by omega) (by omega) ef (fun j h1 h2 => ?_) ?_
      · by_cases e : j = p
        · subst e; rw [pk_us, eb]
        · rw [pk_un e]; exact hj j (by omega) h2
      · rw [pk_un (by omega)]; exact hd
theorem xw_record {T : Nat → Nat → Nat → Prop} {nc lg F : Nat} {C : Nat → Nat} {qc i c D : Nat} {post : SX → Prop} (hw : da_wi T nc lg F C xa_pairSeen xa_queuePair xa_queueFrom xa_queueDepth xa_queueGroup xa_queueBit qc) (hc : c < 2) (hi : i < qc) (hD : D < 256) (eD : xa_queueDepth i = nI D) (d1 : 2 ^ D ≤ C i) (d2 : C i < 2 ^ (D + 1))
    (h : ∀ wt, (∀ j, j < D → wt j = nI (C i / 2 ^ (D - 1 - j) % 2)) → wt D = nI c → post (xf_maxWords, xf_maxLength, xf_textCapacity, xf_wordCount, xf_nodeCount, xf_found, xf_codeDelay, nI (D + 1), xf_queueCount, xf_textSize, xf_decoderOn, xf_decoderDone, xf_readSize, xf_settledAt, xf_settledSize, xa_wordCodes, xa_wordLengths, xa_nextNode, xa_wordEnd, xa_wordDelays, wt, xa_witnessWords, xa_witnessCounts, xa_witnessRest, xa_startNodes, xa_pairSeen, xa_pairHeight, xa_queuePair, xa_queueFrom, xa_queueDepth, xa_queueGroup, xa_queueBit, xa_text, xa_ways, xa_openNode, xa_lastWord, xa_wordsTo, xa_settled)) :
    wpX_recordWitness post (xf_maxWords, xf_maxLength, xf_textCapacity, xf_wordCount, xf_nodeCount, xf_found, xf_codeDelay, xf_witnessSize, xf_queueCount, xf_textSize, xf_decoderOn, xf_decoderDone, xf_readSize, xf_settledAt, xf_settledSize, xa_wordCodes, xa_wordLengths, xa_nextNode, xa_wordEnd, xa_wordDelays, xa_witness, xa_witnessWords, xa_witnessCounts, xa_witnessRest, xa_startNodes, xa_pairSeen, xa_pairHeight, xa_queuePair, xa_queueFrom, xa_queueDepth, xa_queueGroup, xa_queueBit, xa_text, xa_ways, xa_openNode, xa_lastWord, xa_wordsTo, xa_settled) (nI i) (nI c) := by
  have hqc := da_qi_le hw.1
  have ci : (nI i).toNatClampNeg = i := nI_clamp (by omega)
  have cD : (nI D).toNatClampNeg = D := nI_clamp (by omega)
  refine And.intro (vp_in_nI (by omega) (by omega)) (nm_r (e' := nI D) (by rw [ci]; exact eD) (nm_r (nI_1 D) ⟨vp_in_nI (by omega) (by omega), ?_⟩))
  rw [cD, (da_byte hc).1]
  refine nm_e (nm_e ⟨D + 1, ?_⟩)
  refine xw_rw30 hw hD h (D + 1) D i _ (by omega) (Nat.le_refl _) hi d1 d2 (by rw [Nat.sub_self, Nat.pow_zero, Nat.div_one]) (fun j h1 h2 => by omega) pk_us
theorem xw_ge8 {h qc : Nat} {post : Int32 → Prop} (hqc : qc ≤ 4096) (hh : ∀ e, h < e → e ≤ qc → (∀ j, h ≤ j → j < e → xa_queueGroup j = xa_queueGroup h) → (e < qc → ¬ xa_queueGroup e = xa_queueGroup h) → post (nI e)) :
    ∀ f i, h < i → i ≤ qc → qc - i < f → (∀ j, h ≤ j → j < i → xa_queueGroup j = xa_queueGroup h) → wX_groupEnd_8 post (nI h) xf_maxWords xf_maxLength xf_textCapacity xf_wordCount xf_nodeCount xf_found xf_codeDelay xf_witnessSize (nI qc) xf_textSize xf_decoderOn xf_decoderDone xf_readSize xf_settledAt xf_settledSize xa_wordCodes xa_wordLengths xa_nextNode xa_wordEnd xa_wordDelays xa_witness xa_witnessWords xa_witnessCounts xa_witnessRest xa_startNodes xa_pairSeen xa_pairHeight xa_queuePair xa_queueFrom xa_queueDepth xa_queueGroup xa_queueBit xa_text xa_ways xa_openNode xa_lastWord xa_wordsTo xa_settled f (nI i) (nI i) := by
  intro f
  induction f with
  | zero => intro i _ _ h0; omega
  | succ f ih =>
    intro i h1 h2 hf hj
    refine pk_le qc i (fun q => hh i h1 h2 hj (fun z => by omega)) (fun q => ?_)
    have ci : (nI i).toNatClampNeg = i := nI_clamp (by omega)
    have ch : (nI h).toNatClampNeg = h := nI_clamp (by omega)
    rw [ci, ch]
    refine ⟨vp_in_nI (by omega) (by omega), vp_in_nI (by omega) (by omega), br_c (fun z => nm_r (nI_1 i) (nm_r (nI_1 i) (ih (i + 1) (by omega) (by omega) (by omega) (fun j a b => ?_)))) (fun z => hh i h1 h2 hj (fun _ => z))⟩
    rcases Nat.lt_or_ge j i with y | y
    · exact hj j a y
    · have : j = i := by omega
      subst this; exact z
theorem xw_groupEnd {h qc : Nat} {post : Int32 → Prop} (hqc : qc ≤ 4096) (hq : h < qc) (hh : ∀ e, h < e → e ≤ qc → (∀ j, h ≤ j → j < e → xa_queueGroup j = xa_queueGroup h) → (e < qc → ¬ xa_queueGroup e = xa_queueGroup h) → post (nI e)) : wpX_groupEnd post (xf_maxWords, xf_maxLength, xf_textCapacity, xf_wordCount, xf_nodeCount, xf_found, xf_codeDelay, xf_witnessSize, nI qc, xf_textSize, xf_decoderOn, xf_decoderDone, xf_readSize, xf_settledAt, xf_settledSize, xa_wordCodes, xa_wordLengths, xa_nextNode, xa_wordEnd, xa_wordDelays, xa_witness, xa_witnessWords, xa_witnessCounts, xa_witnessRest, xa_startNodes, xa_pairSeen, xa_pairHeight, xa_queuePair, xa_queueFrom, xa_queueDepth, xa_queueGroup, xa_queueBit, xa_text, xa_ways, xa_openNode, xa_lastWord, xa_wordsTo, xa_settled) (nI h) := by
  refine nm_r (nI_1 h) (nm_r (nI_1 h) ⟨qc + 1, xw_ge8 hqc hh (qc + 1) (h + 1) (by omega) (by omega) (by omega) (fun j a b => ?_)⟩)
  have : j = h := by omega
  rw [this]
theorem xw_ex31 {N : Nat} {L : Nat → Nat} {B : Nat → Nat → Nat} {nd : Nat → Nat → Nat} {nc lg h e c i u v : Nat} {ap : Int32} {post : Int32 → SX → Prop} (hk : da_ok N L B) (ht : da_tri N L B nd nc xa_nextNode xa_wordEnd) (hc : c < 2) (hlg : lg < 2 ^ 31) (hi : h ≤ i) (hie : i < e) (hu : u < nc) (hv : v < nc) (hap : (ap = 0 ∧ u = v) ∨ (ap = 1 ∧ u ≠ v))
    (h1 : ∀ C seen qp qf qd qg qb qc, da_wm (da_xt N L B nd) nc lg h e c i C seen qp qf qd qg qb qc → qp i = nI (u * 64 + v) → u ≠ v → da_xt N L B nd u c 0 → da_xt N L B nd v c 0 → post 1 (xf_maxWords, xf_maxLength, xf_textCapacity, xf_wordCount, nI nc, xf_found, xf_codeDelay, xf_witnessSize, nI qc, xf_textSize, xf_decoderOn, xf_decoderDone, xf_readSize, xf_settledAt, xf_settledSize, xa_wordCodes, xa_wordLengths, xa_nextNode, xa_wordEnd, xa_wordDelays, xa_witness, xa_witnessWords, xa_witnessCounts, xa_witnessRest, xa_startNodes, seen, xa_pairHeight, qp, qf, qd, qg, qb, xa_text, xa_ways, xa_openNode, xa_lastWord, xa_wordsTo, xa_settled))
    (h0 : ∀ C seen qp qf qd qg qb qc, da_wm (da_xt N L B nd) nc lg h e c (i + 1) C seen qp qf qd qg qb qc → post 0 (xf_maxWords, xf_maxLength, xf_textCapacity, xf_wordCount, nI nc, xf_found, xf_codeDelay, xf_witnessSize, nI qc, xf_textSize, xf_decoderOn, xf_decoderDone, xf_readSize, xf_settledAt, xf_settledSize, xa_wordCodes, xa_wordLengths, xa_nextNode, xa_wordEnd, xa_wordDelays, xa_witness, xa_witnessWords, xa_witnessCounts, xa_witnessRest, xa_startNodes, seen, xa_pairHeight, qp, qf, qd, qg, qb, xa_text, xa_ways, xa_openNode, xa_lastWord, xa_wordsTo, xa_settled)) :
    ∀ f ch C seen qp qf qd qg qb qc, ch ≤ 4 → 4 - ch < f → da_wm (da_xt N L B nd) nc lg h e c i C seen qp qf qd qg qb qc → qp i = nI (u * 64 + v) → (∀ m, m < ch → ∀ u' v', da_x2 N L B nd u v (c * 4 + m) u' v' → (∃ j, j < qc ∧ qp j = nI (u' * 64 + v') ∧ C j ≤ 2 * C i + c) ∧ ¬ (u ≠ v ∧ u' = 0 ∧ v' = 0)) →
      wX_expand_31 post (nI i) (nI c) (nI lg) (nI (u * 64 + v)) ap f (nI ch) xf_maxWords xf_maxLength xf_textCapacity xf_wordCount (nI nc) xf_found xf_codeDelay xf_witnessSize (nI qc) xf_textSize xf_decoderOn xf_decoderDone xf_readSize xf_settledAt xf_settledSize xa_wordCodes xa_wordLengths xa_nextNode xa_wordEnd xa_wordDelays xa_witness xa_witnessWords xa_witnessCounts xa_witnessRest xa_startNodes seen xa_pairHeight qp qf qd qg qb xa_text xa_ways xa_openNode xa_lastWord xa_wordsTo xa_settled := by
  have h57 := ht.2.2.1
  intro f
  induction f with
  | zero => intro ch C seen qp qf qd qg qb qc _ h0; omega
  | succ f ih =>
    intro ch C seen qp qf qd qg qb qc hch hf hm eq hd
    have hqc := da_qi_le hm.1.1
    have hme := hm.2.2.1
    refine pk_le 4 ch (fun q => ?_) (fun q => ?_)
    · refine h0 C seen qp qf qd qg qb qc ?_
      obtain ⟨w, m1, m2, m3, m4, m5, m6, m7, m8, m9, m10⟩ := hm
      refine ⟨w, m1, m2, m3, m4, m5, m6, m7, m8, m9, fun j a b => ?_⟩
      rcases Nat.lt_or_ge j i with y | y
      · exact m10 j a y
      · have : j = i := by omega
        subst this
        intro u2 v2 hu2 hv2 eq2 u' v' t1 t2
        have e3 : u2 * 64 + v2 = u * 64 + v := (nI_eq (by omega) (by omega)).mp (eq2.symm.trans eq)
        have ea : u2 = u := by omega
        have eb : v2 = v := by omega
        subst ea; subst eb
        obtain ⟨ch', hch', hx⟩ := da_x2_ex hk t1 t2
        exact hd ch' (by omega) u' v' hx
    · have em : nI c * 4 + nI ch = nI (c * 4 + ch) := by rw [show (4 : Int32) = nI 4 from rfl, pk_mul, nI_add]
      rw [em]
      refine xw_successor hk ht hu hv (by omega) (fun r hr => ?_)
      rcases hr with ⟨r1, r2⟩ | ⟨u', v', r1, r2, r3, r4⟩
      · rw [r1]
        refine br_f (by decide) (br_t da_neg1 (nm_r (nI_1 ch) (ih (ch + 1) C seen qp qf qd qg qb qc (by omega) (by omega) hm eq (fun m hm' a b w => ?_))))
        rcases Nat.lt_or_ge m ch with z | z
        · exact hd m z a b w
        · have : m = ch := by omega
          subst this
          exact absurd w (r2 a b)
      · rw [r3]
        have t1 := da_x1_xt hk r4.1
        have t2 := da_x1_xt hk r4.2
        rw [show (c * 4 + ch) / 4 = c by omega] at t1 t2
        have enq : ¬ (u ≠ v ∧ u' = 0 ∧ v' = 0) → wX_expand_63 post (wX_expand_31 post (nI i) (nI c) (nI lg) (nI (u * 64 + v)) ap f) (nI i) (nI c) (nI lg) (nI (u * 64 + v)) ap (nI ch) (nI (u' * 64 + v')) xf_maxWords xf_maxLength xf_textCapacity xf_wordCount (nI nc) xf_found xf_codeDelay xf_witnessSize (nI qc) xf_textSize xf_decoderOn xf_decoderDone xf_readSize xf_settledAt xf_settledSize xa_wordCodes xa_wordLengths xa_nextNode xa_wordEnd xa_wordDelays xa_witness xa_witnessWords xa_witnessCounts xa_witnessRest xa_startNodes seen xa_pairHeight qp qf qd qg qb xa_text xa_ways xa_openNode xa_lastWord xa_wordsTo xa_settled := by
          intro nd'
          refine br_f (nI_pos (by omega)) ?_
          refine xw_enqF (by omega) (by omega) (fun z => da_qi_lt hm.1.1 (by omega) z) hqc (fun z => ?_) (fun z => ?_)
          · refine nm_r (nI_1 ch) (ih (ch + 1) C seen qp qf qd qg qb qc (by omega) (by omega) hm eq (fun m hm' a b w => ?_))
            rcases Nat.lt_or_ge m ch with y | y
            · exact hd m y a b w
            · have : m = ch := by omega
              subst this
              have ea := da_x1_u ht w.1 r4.1
              have eb := da_x1_u ht w.2 r4.2
              subst ea; subst eb
              rcases hm.1.1.2.1 (a * 64 + b) (by omega) with y' | ⟨_, j, y1, y2⟩
              · exact absurd y' z
              · refine ⟨⟨j, y1, y2, ?_⟩, nd'⟩
                have := hm.2.2.2.2.2.2.1 j y1
                have := hm.2.2.2.1 i hi hie
                omega
          · have ad := da_wm_add h57 hc hlg hm hi hie hu hv eq t1 t2 r1 r2 z
            rw [(da_byte hc).1]
            refine nm_r (nI_1 ch) (ih (ch + 1) _ _ _ _ _ _ _ (qc + 1) (by omega) (by omega) ad (by rw [pk_un (by omega)]; exact eq) (fun m hm' a b w => ?_))
            rw [da_cs_n (show i ≠ qc by omega)]
            have eCi := hm.2.2.2.1 i hi hie
            rcases Nat.lt_or_ge m ch with y | y
            · obtain ⟨⟨j, y1, y2, y3⟩, y4⟩ := hd m y a b w
              exact ⟨⟨j, by omega, by rw [pk_un (by omega)]; exact y2, by rw [da_cs_n (by omega)]; exact y3⟩, y4⟩
            · have : m = ch := by omega
              subst this
              have ea := da_x1_u ht w.1 r4.1
              have eb := da_x1_u ht w.2 r4.2
              subst ea; subst eb
              exact ⟨⟨qc, by omega, pk_us, by rw [da_cs_s, eCi]; exact Nat.le_refl _⟩, nd'⟩
        refine pk_eq (u' * 64 + v') 0 (fun z => ?_) (fun z => enq (fun w => z (by omega)))
        have eu : u' = 0 := by omega
        have ev : v' = 0 := by omega
        rcases hap with ⟨p1, p2⟩ | ⟨p1, p2⟩
        · rw [p1]
          have := enq (fun w => w.1 p2)
          rw [p1] at this
          exact br_t rfl this
        · rw [p1]
          subst eu; subst ev
          exact br_f da_10 (h1 C seen qp qf qd qg qb qc hm eq p2 t1 t2)
theorem xw_expand {N : Nat} {L : Nat → Nat} {B : Nat → Nat → Nat} {nd : Nat → Nat → Nat} {nc lg h e c i : Nat} {post : Int32 → SX → Prop} (hk : da_ok N L B) (ht : da_tri N L B nd nc xa_nextNode xa_wordEnd) (hc : c < 2) (hlg : lg < 2 ^ 31) (hi : h ≤ i) (hie : i < e)
    (h1 : ∀ C seen qp qf qd qg qb qc u v, u < nc → v < nc → da_wm (da_xt N L B nd) nc lg h e c i C seen qp qf qd qg qb qc → qp i = nI (u * 64 + v) → u ≠ v → da_xt N L B nd u c 0 → da_xt N L B nd v c 0 → post 1 (xf_maxWords, xf_maxLength, xf_textCapacity, xf_wordCount, nI nc, xf_found, xf_codeDelay, xf_witnessSize, nI qc, xf_textSize, xf_decoderOn, xf_decoderDone, xf_readSize, xf_settledAt, xf_settledSize, xa_wordCodes, xa_wordLengths, xa_nextNode, xa_wordEnd, xa_wordDelays, xa_witness, xa_witnessWords, xa_witnessCounts, xa_witnessRest, xa_startNodes, seen, xa_pairHeight, qp, qf, qd, qg, qb, xa_text, xa_ways, xa_openNode, xa_lastWord, xa_wordsTo, xa_settled))
    (h0 : ∀ C seen qp qf qd qg qb qc, da_wm (da_xt N L B nd) nc lg h e c (i + 1) C seen qp qf qd qg qb qc → post 0 (xf_maxWords, xf_maxLength, xf_textCapacity, xf_wordCount, nI nc, xf_found, xf_codeDelay, xf_witnessSize, nI qc, xf_textSize, xf_decoderOn, xf_decoderDone, xf_readSize, xf_settledAt, xf_settledSize, xa_wordCodes, xa_wordLengths, xa_nextNode, xa_wordEnd, xa_wordDelays, xa_witness, xa_witnessWords, xa_witnessCounts, xa_witnessRest, xa_startNodes, seen, xa_pairHeight, qp, qf, qd, qg, qb, xa_text, xa_ways, xa_openNode, xa_lastWord, xa_wordsTo, xa_settled))
    {C : Nat → Nat} {seen qp qf qd qg qb : Nat → Int32} {qc : Nat} (hm : da_wm (da_xt N L B nd) nc lg h e c i C seen qp qf qd qg qb qc) :
    wpX_expand post (xf_maxWords, xf_maxLength, xf_textCapacity, xf_wordCount, nI nc, xf_found, xf_codeDelay, xf_witnessSize, nI qc, xf_textSize, xf_decoderOn, xf_decoderDone, xf_readSize, xf_settledAt, xf_settledSize, xa_wordCodes, xa_wordLengths, xa_nextNode, xa_wordEnd, xa_wordDelays, xa_witness, xa_witnessWords, xa_witnessCounts, xa_witnessRest, xa_startNodes, seen, xa_pairHeight, qp, qf, qd, qg, qb, xa_text, xa_ways, xa_openNode, xa_lastWord, xa_wordsTo, xa_settled) (nI i) (nI c) (nI lg) := by
  have h57 := ht.2.2.1
  have hqc := da_qi_le hm.1.1
  have hme := hm.2.2.1
  obtain ⟨u, v, hu, hv, eq, _⟩ := hm.1.1.1 i (by omega)
  have ci : (nI i).toNatClampNeg = i := nI_clamp (by omega)
  have e4 : nI (u * 64 + v) >>> ((6 : Int32) &&& 31) = nI u := by
    rw [pk_shrN (by omega) _ 6 (by decide)]; exact congrArg nI (by omega)
  have e5 : nI (u * 64 + v) &&& 63 = nI v := by
    rw [pk_andN (by omega) 6 (by decide)]; exact congrArg nI (by omega)
  refine And.intro (vp_in_nI (by omega) (by omega)) (nm_r (e' := nI (u * 64 + v)) (by rw [ci]; exact eq) ?_)
  rw [e4, e5]
  refine pk_eq u v (fun z => ⟨5, ?_⟩) (fun z => ⟨5, ?_⟩)
  · exact xw_ex31 hk ht hc hlg hi hie hu hv (Or.inl ⟨rfl, z⟩) (fun C seen qp qf qd qg qb qc => h1 C seen qp qf qd qg qb qc u v hu hv) h0 5 0 C seen qp qf qd qg qb qc (by omega) (by omega) hm eq (fun m hm => by omega)
  · exact xw_ex31 hk ht hc hlg hi hie hu hv (Or.inr ⟨rfl, z⟩) (fun C seen qp qf qd qg qb qc => h1 C seen qp qf qd qg qb qc u v hu hv) h0 5 0 C seen qp qf qd qg qb qc (by omega) (by omega) hm eq (fun m hm => by omega)
theorem xw_fw55 {N : Nat} {L : Nat → Nat} {B : Nat → Nat → Nat} {nd : Nat → Nat → Nat} {nc lg h e c tn : Nat} {post : Int32 → SX → Prop} {J18 : Int32 → Int32 → Int32 → Int32 → Int32 → Int32 → Int32 → Int32 → Int32 → Int32 → Int32 → Int32 → Int32 → Int32 → Int32 → Int32 → Int32 → Int32 → (Nat → Int32) → (Nat → Int32) → (Nat → Int32) → (Nat → Int32) → (Nat → Int32) → (Nat → Int32) → (Nat → Int32) → (Nat → Int32) → (Nat → Int32) → (Nat → Int64) → (Nat → Int32) → (Nat → Int32) → (Nat → Int32) → (Nat → Int32) → (Nat → Int32) → (Nat → Int32) → (Nat → Int32) → (Nat → Int32) → (Nat → Int32) → (Nat → Int32) → (Nat → Int32) → (Nat → Int32) → (Nat → Int32) → Prop} {J43 : Int32 → Int32 → Int32 → Int32 → Int32 → Int32 → Int32 → Int32 → Int32 → Int32 → Int32 → Int32 → Int32 → Int32 → Int32 → Int32 → Int32 → (Nat → Int32) → (Nat → Int32) → (Nat → Int32) → (Nat → Int32) → (Nat → Int32) → (Nat → Int32) → (Nat → Int32) → (Nat → Int32) → (Nat → Int32) → (Nat → Int64) → (Nat → Int32) → (Nat → Int32) → (Nat → Int32) → (Nat → Int32) → (Nat → Int32) → (Nat → Int32) → (Nat → Int32) → (Nat → Int32) → (Nat → Int32) → (Nat → Int32) → (Nat → Int32) → (Nat → Int32) → (Nat → Int32) → Prop} (hk : da_ok N L B) (ht : da_tri N L B nd nc xa_nextNode xa_wordEnd) (hc : c < 2) (hlg : lg < 2 ^ 31)
    (h1 : ∀ bs wt seen qp qf qd qg qb qc, da_ax (da_xt N L B nd) bs → (∀ z, da_ax (da_xt N L B nd) z → da_cd 1 bs ≤ da_cd 1 z) → 1 ≤ bs.length → bs.length ≤ 232 → (∀ j, j < bs.length → wt j = nI (bs.getD j 0)) → post 1 (xf_maxWords, xf_maxLength, xf_textCapacity, xf_wordCount, nI nc, xf_found, xf_codeDelay, nI bs.length, nI qc, xf_textSize, xf_decoderOn, xf_decoderDone, xf_readSize, xf_settledAt, xf_settledSize, xa_wordCodes, xa_wordLengths, xa_nextNode, xa_wordEnd, xa_wordDelays, wt, xa_witnessWords, xa_witnessCounts, xa_witnessRest, xa_startNodes, seen, xa_pairHeight, qp, qf, qd, qg, qb, xa_text, xa_ways, xa_openNode, xa_lastWord, xa_wordsTo, xa_settled))
    (hJ : ∀ C seen qp qf qd qg qb qc, da_wm (da_xt N L B nd) nc lg h e c e C seen qp qf qd qg qb qc → J43 (nI lg) (nI (c + 1)) xf_maxWords xf_maxLength xf_textCapacity xf_wordCount (nI nc) xf_found xf_codeDelay xf_witnessSize (nI qc) xf_textSize xf_decoderOn xf_decoderDone xf_readSize xf_settledAt xf_settledSize xa_wordCodes xa_wordLengths xa_nextNode xa_wordEnd xa_wordDelays xa_witness xa_witnessWords xa_witnessCounts xa_witnessRest xa_startNodes seen xa_pairHeight qp qf qd qg qb xa_text xa_ways xa_openNode xa_lastWord xa_wordsTo xa_settled) :
    ∀ f i C seen qp qf qd qg qb qc, h ≤ i → i ≤ e → e - i < f → da_wm (da_xt N L B nd) nc lg h e c i C seen qp qf qd qg qb qc →
      wX_findWitness_55 post J18 J43 (nI lg) (nI h) (nI tn) (nI e) (nI c) f (nI i) xf_maxWords xf_maxLength xf_textCapacity xf_wordCount (nI nc) xf_found xf_codeDelay xf_witnessSize (nI qc) xf_textSize xf_decoderOn xf_decoderDone xf_readSize xf_settledAt xf_settledSize xa_wordCodes xa_wordLengths xa_nextNode xa_wordEnd xa_wordDelays xa_witness xa_witnessWords xa_witnessCounts xa_witnessRest xa_startNodes seen xa_pairHeight qp qf qd qg qb xa_text xa_ways xa_openNode xa_lastWord xa_wordsTo xa_settled := by
  have hT := da_xt_lt hk ht
  have hb : ∀ u c u', da_xt N L B nd u c u' → c < 2 := fun _ _ _ w => da_xt_b hk w
  intro f
  induction f with
  | zero => intro i C seen qp qf qd qg qb qc _ _ h0; omega
  | succ f ih =>
    intro i C seen qp qf qd qg qb qc hi hie hf hm
    have hqc := da_qi_le hm.1.1
    have hme := hm.2.2.1
    refine pk_le e i (fun q => ?_) (fun q => ?_)
    · have : i = e := by omega
      subst this
      exact nm_r (nI_1 c) (hJ C seen qp qf qd qg qb qc hm)
    · refine xw_expand hk ht hc hlg hi q (fun C seen qp qf qd qg qb qc u v hu hv hm' eq ne t1 t2 => ?_) (fun C seen qp qf qd qg qb qc hm' => ?_) hm
      · have hme' := hm'.2.2.1
        refine br_f da_10 ?_
        obtain ⟨D, d1, d2, d3, d4⟩ := hm'.1.2.2.2.2.2.2.1 i (by omega)
        obtain ⟨bs, p1, p2, p3, p4⟩ := hm'.1.2.2.2.2.1 i (by omega) u v hu hv eq
        have hlen : bs.length = D := by
          have l1 := da_cd_lo bs 1
          have l2 := da_cd_hi bs 1 p1
          rw [p2] at l1 l2
          rw [Nat.one_mul] at l1
          exact da_log l1 (by rw [Nat.pow_succ]; omega) d3 d4
        have pb : ∀ d, d ∈ bs ++ [c] → d < 2 := by
          intro d hd
          rcases List.mem_append.mp hd with q | q
          · exact p1 d q
          · rw [List.mem_singleton.mp q]; exact hc
        have hax : da_ax (da_xt N L B nd) (bs ++ [c]) := ⟨bs, c, u, v, rfl, ne, p3, p4, t1, t2⟩
        have hmin : ∀ z, da_ax (da_xt N L B nd) z → da_cd 1 (bs ++ [c]) ≤ da_cd 1 z := by
          intro z hz
          rw [da_cd_snoc, p2]
          exact da_least ht.2.1 ht.2.2.1 hT hb hc hm' hi q z hz
        have h232 := da_ax232 hk ht.1 hax hmin
        have hl1 : (bs ++ [c]).length = D + 1 := by rw [List.length_append, hlen]; rfl
        refine xw_record hm'.1 hc (by omega) (by omega) d1 d3 d4 (fun wt q1 q2 => ?_)
        have := h1 (bs ++ [c]) wt seen qp qf qd qg qb qc hax hmin (by omega) h232 (fun j hj => ?_)
        · rw [hl1] at this; exact this
        · rw [hl1] at hj
          rcases Nat.lt_or_ge j D with y | y
          · rw [q1 j y]
            have := da_cd_bit bs 1 p1 j (by omega)
            rw [p2, hlen] at this
            rw [this, List.getD_eq_getElem?_getD, List.getD_eq_getElem?_getD, List.getElem?_append_left (by omega)]
          · have : j = D := by omega
            subst this
            rw [q2, List.getD_eq_getElem?_getD, List.getElem?_append_right (by omega), hlen, Nat.sub_self]
            rfl
      · refine br_t rfl (nm_r (nI_1 i) (ih (i + 1) C seen qp qf qd qg qb qc (by omega) (by omega) (by omega) hm'))
theorem xw_fw18 {N : Nat} {L : Nat → Nat} {B : Nat → Nat → Nat} {nd : Nat → Nat → Nat} {nc : Nat} {post : Int32 → SX → Prop} (hk : da_ok N L B) (ht : da_tri N L B nd nc xa_nextNode xa_wordEnd)
    (h1 : ∀ bs wt seen qp qf qd qg qb qc, da_ax (da_xt N L B nd) bs → (∀ z, da_ax (da_xt N L B nd) z → da_cd 1 bs ≤ da_cd 1 z) → 1 ≤ bs.length → bs.length ≤ 232 → (∀ j, j < bs.length → wt j = nI (bs.getD j 0)) → post 1 (xf_maxWords, xf_maxLength, xf_textCapacity, xf_wordCount, nI nc, xf_found, xf_codeDelay, nI bs.length, nI qc, xf_textSize, xf_decoderOn, xf_decoderDone, xf_readSize, xf_settledAt, xf_settledSize, xa_wordCodes, xa_wordLengths, xa_nextNode, xa_wordEnd, xa_wordDelays, wt, xa_witnessWords, xa_witnessCounts, xa_witnessRest, xa_startNodes, seen, xa_pairHeight, qp, qf, qd, qg, qb, xa_text, xa_ways, xa_openNode, xa_lastWord, xa_wordsTo, xa_settled))
    (h0 : ∀ seen qp qf qd qg qb qc, (∀ bs, ¬ da_ax (da_xt N L B nd) bs) → post 0 (xf_maxWords, xf_maxLength, xf_textCapacity, xf_wordCount, nI nc, xf_found, xf_codeDelay, xf_witnessSize, nI qc, xf_textSize, xf_decoderOn, xf_decoderDone, xf_readSize, xf_settledAt, xf_settledSize, xa_wordCodes, xa_wordLengths, xa_nextNode, xa_wordEnd, xa_wordDelays, xa_witness, xa_witnessWords, xa_witnessCounts, xa_witnessRest, xa_startNodes, seen, xa_pairHeight, qp, qf, qd, qg, qb, xa_text, xa_ways, xa_openNode, xa_lastWord, xa_wordsTo, xa_settled)) :
    ∀ f tn hd C seen qp qf qd qg qb qc, tn ≤ hd → hd ≤ qc → 4096 - tn < f → da_wi (da_xt N L B nd) nc (2 * tn) hd C seen qp qf qd qg qb qc → (∀ j, j < hd → ∀ c', c' < 2 → da_dn (da_xt N L B nd) nc C qp qc j c') → (∀ j j', j < hd → hd ≤ j' → j' < qc → C j < C j') →
      wX_findWitness_18 post f (nI (2 * tn)) (nI hd) (nI tn) xf_maxWords xf_maxLength xf_textCapacity xf_wordCount (nI nc) xf_found xf_codeDelay xf_witnessSize (nI qc) xf_textSize xf_decoderOn xf_decoderDone xf_readSize xf_settledAt xf_settledSize xa_wordCodes xa_wordLengths xa_nextNode xa_wordEnd xa_wordDelays xa_witness xa_witnessWords xa_witnessCounts xa_witnessRest xa_startNodes seen xa_pairHeight qp qf qd qg qb xa_text xa_ways xa_openNode xa_lastWord xa_wordsTo xa_settled := by
  have hT := da_xt_lt hk ht
  have hb : ∀ u c u', da_xt N L B nd u c u' → c < 2 := fun _ _ _ w => da_xt_b hk w
  intro f
  induction f with
  | zero => intro tn hd C seen qp qf qd qg qb qc _ _ h0; omega
  | succ f ih =>
    intro tn hd C seen qp qf qd qg qb qc h2 h3 hf hw hdn hlt
    have hqc := da_qi_le hw.1
    have fin : hd = qc → post 0 (xf_maxWords, xf_maxLength, xf_textCapacity, xf_wordCount, nI nc, xf_found, xf_codeDelay, xf_witnessSize, nI qc, xf_textSize, xf_decoderOn, xf_decoderDone, xf_readSize, xf_settledAt, xf_settledSize, xa_wordCodes, xa_wordLengths, xa_nextNode, xa_wordEnd, xa_wordDelays, xa_witness, xa_witnessWords, xa_witnessCounts, xa_witnessRest, xa_startNodes, seen, xa_pairHeight, qp, qf, qd, qg, qb, xa_text, xa_ways, xa_openNode, xa_lastWord, xa_wordsTo, xa_settled) := by
      intro e; subst e
      exact h0 seen qp qf qd qg qb hd (da_none ht.2.1 ht.2.2.1 hT hb hw hdn)
    refine pk_le 4096 tn (fun q => fin (by omega)) (fun q => ?_)
    refine pk_le qc hd (fun q => fin (by omega)) (fun q => ?_)
    refine xw_groupEnd hqc q (fun e e1 e2 e3 e4 => ⟨3, ?_⟩)
    have cE : ∀ j, hd ≤ j → j < e → C j = C hd := fun j a b => (hw.2.2.2.2.2.2.2.2.2 j hd (by omega) q).mp (e3 j a b)
    have cG : ∀ j, e ≤ j → j < qc → C hd < C j := by
      intro j a b
      have m1 := hw.2.2.2.2.2.2.2.1 hd e (by omega) (by omega)
      have m2 := hw.2.2.2.2.2.2.2.1 e j a b
      have : ¬ C e = C hd := fun z => e4 (by omega) ((hw.2.2.2.2.2.2.2.2.2 e hd (by omega) q).mpr z)
      omega
    have wm0 := da_wm_0 (by omega) hw e1 e2 cE cG (fun j hj => hlt j hd hj (Nat.le_refl _) q) hdn
    refine br_f (by decide) (nm_r (nI_1 _) ⟨e - hd + 1, ?_⟩)
    refine xw_fw55 (tn := tn) (c := 0) hk ht (by omega) (by omega) h1 (fun C seen qp qf qd qg qb qc hm => ?_) (e - hd + 1) hd C seen qp qf qd qg qb qc (Nat.le_refl _) (by omega) (by omega) wm0
    have wm1 := da_wm_1 (by omega) hm
    refine br_f (by decide) (nm_r (nI_1 _) ⟨e - hd + 1, ?_⟩)
    refine xw_fw55 (tn := tn) (c := 1) hk ht (by omega) (by omega) h1 (fun C seen qp qf qd qg qb qc hm => ?_) (e - hd + 1) hd C seen qp qf qd qg qb qc (Nat.le_refl _) (by omega) (by omega) wm1
    refine br_t (by decide) (nm_r (nI_1 tn) ?_)
    obtain ⟨w, m1, m2, m3, m4, m5, m6, m7, m8, m9, m10⟩ := hm
    have := ih (tn + 1) e C seen qp qf qd qg qb qc (by omega) m2 (by omega) w (fun j hj c' hc' => ?_) (fun j j' a b d => ?_)
    · exact this
    · rcases Nat.lt_or_ge j hd with y | y
      · exact m8 j y c' hc'
      · have : c' = 0 ∨ c' = 1 := by omega
        rcases this with z | z
        · subst z; exact m9 j y hj 0 (by omega)
        · subst z; exact m10 j y hj
    · have p1 := m4 j' b d
      rcases Nat.lt_or_ge j hd with y | y
      · have := m5 j y; omega
      · have := m3 j y a; omega
theorem xw_findWitness {N : Nat} {L : Nat → Nat} {B : Nat → Nat → Nat} {nd : Nat → Nat → Nat} {nc : Nat} {post : Int32 → SX → Prop} (hk : da_ok N L B) (ht : da_tri N L B nd nc xa_nextNode xa_wordEnd)
    (h1 : ∀ bs wt seen qp qf qd qg qb qc, da_ax (da_xt N L B nd) bs → (∀ z, da_ax (da_xt N L B nd) z → da_cd 1 bs ≤ da_cd 1 z) → 1 ≤ bs.length → bs.length ≤ 232 → (∀ j, j < bs.length → wt j = nI (bs.getD j 0)) → post 1 (xf_maxWords, xf_maxLength, xf_textCapacity, xf_wordCount, nI nc, xf_found, xf_codeDelay, nI bs.length, nI qc, xf_textSize, xf_decoderOn, xf_decoderDone, xf_readSize, xf_settledAt, xf_settledSize, xa_wordCodes, xa_wordLengths, xa_nextNode, xa_wordEnd, xa_wordDelays, wt, xa_witnessWords, xa_witnessCounts, xa_witnessRest, xa_startNodes, seen, xa_pairHeight, qp, qf, qd, qg, qb, xa_text, xa_ways, xa_openNode, xa_lastWord, xa_wordsTo, xa_settled))
    (h0 : ∀ seen qp qf qd qg qb qc, (∀ bs, ¬ da_ax (da_xt N L B nd) bs) → post 0 (xf_maxWords, xf_maxLength, xf_textCapacity, xf_wordCount, nI nc, xf_found, xf_codeDelay, xf_witnessSize, nI qc, xf_textSize, xf_decoderOn, xf_decoderDone, xf_readSize, xf_settledAt, xf_settledSize, xa_wordCodes, xa_wordLengths, xa_nextNode, xa_wordEnd, xa_wordDelays, xa_witness, xa_witnessWords, xa_witnessCounts, xa_witnessRest, xa_startNodes, seen, xa_pairHeight, qp, qf, qd, qg, qb, xa_text, xa_ways, xa_openNode, xa_lastWord, xa_wordsTo, xa_settled)) : wpX_findWitness post (xf_maxWords, xf_maxLength, xf_textCapacity, xf_wordCount, nI nc, xf_found, xf_codeDelay, xf_witnessSize, xf_queueCount, xf_textSize, xf_decoderOn, xf_decoderDone, xf_readSize, xf_settledAt, xf_settledSize, xa_wordCodes, xa_wordLengths, xa_nextNode, xa_wordEnd, xa_wordDelays, xa_witness, xa_witnessWords, xa_witnessCounts, xa_witnessRest, xa_startNodes, xa_pairSeen, xa_pairHeight, xa_queuePair, xa_queueFrom, xa_queueDepth, xa_queueGroup, xa_queueBit, xa_text, xa_ways, xa_openNode, xa_lastWord, xa_wordsTo, xa_settled) := by
  have h57 := ht.2.2.1
  have hnc := ht.2.1
  unfold wpX_findWitness
  refine xw_clearPairs (fun seen hs => ?_)
  refine xw_enqR (p := 0) (qc := 0) (by omega) (fun _ => by omega) (by omega) (fun z => absurd (hs 0 (by omega)) z) (fun z => ⟨4097, ?_⟩)
  have q0 : da_qi nc seen xa_queuePair 0 := ⟨fun i hi => by omega, fun p hp => Or.inl (hs p hp), da_cn_0 (fun k hk => by show ¬ seen k = 1; rw [hs k hk]; exact da_01)⟩
  have q1 := da_qi_add (u := 0) (v := 0) q0 h57 hnc hnc (hs 0 (by omega))
  refine xw_fw18 hk ht h1 h0 4097 0 0 (fun _ => 1) _ _ _ _ _ _ 1 (by omega) (by omega) (by omega) ⟨q1, by omega, pk_us, rfl, fun i hi u v hu hv e => ?_, fun i a b => by omega, fun i hi => ?_, fun i j a b => Nat.le_refl _, fun i hi => ?_, fun i j a b => ?_⟩ (fun j hj => by omega) (fun j j' a => by omega)
  · have : i = 0 := by omega
    subst this
    rw [pk_us] at e
    have : 0 * 64 + 0 = u * 64 + v := (nI_eq (by omega) (by omega)).mp e
    have eu : u = 0 := by omega
    have ev : v = 0 := by omega
    subst eu; subst ev
    exact ⟨[], (fun c hc => absurd hc (by simp)), rfl, rfl, rfl⟩
  · have : i = 0 := by omega
    subst this
    exact ⟨0, pk_us, by omega, by decide, by decide⟩
  · have : i = 0 := by omega
    subst this
    exact ⟨0, by omega, pk_us⟩
  · have e1 : i = 0 := by omega
    have e2 : j = 0 := by omega
    subst e1; subst e2
    exact ⟨fun _ => rfl, fun _ => rfl⟩
end
end
section
/-! least and greatest readings: pure part, then the component's readings of the witness -/
def da_rb (N : Nat) (L : Nat → Nat) (B : Nat → Nat → Nat) (t : Nat → Nat) (i e : Nat) : Prop := ∃ l, da_rd N L B t i l e
def da_ft (N : Nat) (L : Nat → Nat) (B : Nat → Nat → Nat) (t : Nat → Nat) (e i k : Nat) : Prop := i + L k ≤ e ∧ da_m L B t i k ∧ da_rb N L B t (i + L k) e
def da_pk (P : Nat → Prop) (N wh k : Nat) : Prop := k < N ∧ P k ∧ ∀ k', k' < N → P k' → (wh = 0 → k ≤ k') ∧ (wh ≠ 0 → k' ≤ k)
def da_gr (N : Nat) (L : Nat → Nat) (B : Nat → Nat → Nat) (t : Nat → Nat) (e wh : Nat) : Nat → List Nat → Prop
  | i, [] => i = e
  | i, k :: l => da_pk (da_ft N L B t e i) N wh k ∧ da_gr N L B t e wh (i + L k) l
theorem da_pk_u {P : Nat → Prop} {N wh k k' : Nat} (h : da_pk P N wh k) (h' : da_pk P N wh k') : k = k' := by
  have a := h.2.2 k' h'.1 h'.2.1
  have b := h'.2.2 k h.1 h.2.1
  by_cases z : wh = 0
  · have := a.1 z; have := b.1 z; omega
  · have := a.2 z; have := b.2 z; omega
section
variable {N : Nat} {L : Nat → Nat} {B : Nat → Nat → Nat} {t : Nat → Nat} {e wh : Nat}
theorem da_gr_rd : ∀ (l : List Nat) (i : Nat), da_gr N L B t e wh i l → da_rd N L B t i l e
  | [], _, h => h
  | _ :: l, _, ⟨h1, h2⟩ => ⟨h1.1, h1.2.1.2.1, da_gr_rd l _ h2⟩
theorem da_gr_u (hk : da_ok N L B) : ∀ (l l' : List Nat) (i : Nat), da_gr N L B t e wh i l → da_gr N L B t e wh i l' → l = l'
  | [], [], _, _, _ => rfl
  | [], k :: l, i, h1, h2 => by
    have e1 : i = e := h1
    have := h2.1.2.1.1
    have := (hk.2.1 k h2.1.1).1
    omega
  | k :: l, [], i, h1, h2 => by
    have e1 : i = e := h2
    have := h1.1.2.1.1
    have := (hk.2.1 k h1.1.1).1
    omega
  | k :: l, k' :: l', i, h1, h2 => by
    have := da_pk_u h1.1 h2.1
    subst this
    rw [da_gr_u hk l l' _ h1.2 h2.2]
theorem da_rb_step (hk : da_ok N L B) {i : Nat} (hi : i ≠ e) : da_rb N L B t i e ↔ ∃ k, k < N ∧ da_ft N L B t e i k := by
  constructor
  · rintro ⟨l, hl⟩
    cases l with
    | nil => exact absurd hl hi
    | cons k l =>
      have := da_rd_le hk _ _ _ hl.2.2
      exact ⟨k, hl.1, by omega, hl.2.1, l, hl.2.2⟩
  · rintro ⟨k, h1, _, h3, l, h4⟩
    exact ⟨k :: l, h1, h3, h4⟩
theorem da_rb_e : da_rb N L B t e e := ⟨[], rfl⟩
theorem da_rb_le (hk : da_ok N L B) {i : Nat} (h : da_rb N L B t i e) : i ≤ e := by
  obtain ⟨l, hl⟩ := h
  have := da_rd_le hk _ _ _ hl
  omega
end
/-- what is kept of a least (0) or greatest (1) reading -/
def da_gw (N : Nat) (L : Nat → Nat) (B : Nat → Nat → Nat) (t : Nat → Nat) (e wh : Nat) (cnt : Int32) (ww : Nat → Int32) : Prop :=
  (∃ l, da_gr N L B t e wh 0 l ∧ cnt = nI l.length ∧ l.length ≤ e ∧ ∀ j, j < l.length → ww (wh * 256 + j) = nI (l.getD j 0)) ∨ (¬ da_rb N L B t 0 e ∧ cnt = 0)
theorem da_getD_l {l l' : List Nat} {j : Nat} (h : j < l.length) : (l ++ l').getD j 0 = l.getD j 0 := by
  rw [List.getD_eq_getElem?_getD, List.getD_eq_getElem?_getD, List.getElem?_append_left h]
theorem da_getD_e {l : List Nat} {x : Nat} : (l ++ [x]).getD l.length 0 = x := by
  rw [List.getD_eq_getElem?_getD, List.getElem?_append_right (Nat.le_refl _), Nat.sub_self]; rfl
section
variable {xf_maxWords xf_maxLength xf_textCapacity xf_wordCount xf_nodeCount xf_found xf_codeDelay xf_witnessSize xf_queueCount xf_textSize xf_decoderOn xf_decoderDone xf_readSize xf_settledAt xf_settledSize : Int32} {xa_wordCodes xa_wordLengths xa_nextNode xa_wordEnd xa_wordDelays xa_witness xa_witnessWords xa_witnessCounts xa_witnessRest xa_pairSeen xa_pairHeight xa_queuePair xa_queueFrom xa_queueDepth xa_queueGroup xa_queueBit xa_text xa_ways xa_openNode xa_lastWord xa_wordsTo xa_settled : Nat → Int32} {xa_startNodes : Nat → Int64}
theorem xw_fw33 {N m k at_ : Nat} {z : Nat → Nat} {post : Int32 → Prop} (hc : da_cok N xa_wordCodes xa_wordLengths) (hk : k < N) (hm : m ≤ 232) (hz : ∀ j, j < m → xa_witness j = nI (z j) ∧ z j < 2) (hat : at_ + da_L xa_wordLengths k ≤ m)
    (h1 : da_m (da_L xa_wordLengths) (da_B xa_wordCodes xa_wordLengths) z at_ k → post 1) (h0 : ¬ da_m (da_L xa_wordLengths) (da_B xa_wordCodes xa_wordLengths) z at_ k → post 0) :
    ∀ f j, j ≤ da_L xa_wordLengths k → da_L xa_wordLengths k - j < f → (∀ x, x < j → z (at_ + x) = da_B xa_wordCodes xa_wordLengths k x) →
      wX_fitsWitness_33 post (nI k) (nI at_) (nI (da_L xa_wordLengths k)) xf_maxWords xf_maxLength xf_textCapacity xf_wordCount xf_nodeCount xf_found xf_codeDelay xf_witnessSize xf_queueCount xf_textSize xf_decoderOn xf_decoderDone xf_readSize xf_settledAt xf_settledSize xa_wordCodes xa_wordLengths xa_nextNode xa_wordEnd xa_wordDelays xa_witness xa_witnessWords xa_witnessCounts xa_witnessRest xa_startNodes xa_pairSeen xa_pairHeight xa_queuePair xa_queueFrom xa_queueDepth xa_queueGroup xa_queueBit xa_text xa_ways xa_openNode xa_lastWord xa_wordsTo xa_settled f (nI j) := by
  have hok := da_cok_ok hc
  intro f
  induction f with
  | zero => intro j _ h0; omega
  | succ f ih =>
    intro j hj hf hx
    have hL := hok.2.1 k hk
    refine pk_le (da_L xa_wordLengths k) j (fun q => h1 (fun x hx' => hx x (by omega))) (fun q => ?_)
    refine xw_wordBit hc hk q ?_
    have hB := hok.2.2.1 k j
    obtain ⟨e1, e2⟩ := hz (at_ + j) (by omega)
    rw [nI_add, nI_clamp (by omega), e1]
    refine ⟨vp_in_nI (by omega) (by omega), pk_eq _ _ (fun y => nm_r (nI_1 j) (ih (j + 1) (by omega) (by omega) (fun x hx' => ?_))) (fun y => h0 (fun w => y (w j q)))⟩
    rcases Nat.lt_or_ge x j with w | w
    · exact hx x w
    · have : x = j := by omega
      subst this; exact y
theorem xw_fitsWitness {N m k at_ : Nat} {z : Nat → Nat} {post : Int32 → Prop} (hc : da_cok N xa_wordCodes xa_wordLengths) (hk : k < N) (hm : m ≤ 232) (hat : at_ ≤ m) (hz : ∀ j, j < m → xa_witness j = nI (z j) ∧ z j < 2)
    (hr : ∀ x, at_ < x → x ≤ m → (xa_witnessRest x = 1 ∧ da_rb N (da_L xa_wordLengths) (da_B xa_wordCodes xa_wordLengths) z x m) ∨ (xa_witnessRest x = 0 ∧ ¬ da_rb N (da_L xa_wordLengths) (da_B xa_wordCodes xa_wordLengths) z x m))
    (h1 : da_ft N (da_L xa_wordLengths) (da_B xa_wordCodes xa_wordLengths) z m at_ k → post 1) (h0 : ¬ da_ft N (da_L xa_wordLengths) (da_B xa_wordCodes xa_wordLengths) z m at_ k → post 0) :
    wpX_fitsWitness post (xf_maxWords, xf_maxLength, xf_textCapacity, xf_wordCount, xf_nodeCount, xf_found, xf_codeDelay, nI m, xf_queueCount, xf_textSize, xf_decoderOn, xf_decoderDone, xf_readSize, xf_settledAt, xf_settledSize, xa_wordCodes, xa_wordLengths, xa_nextNode, xa_wordEnd, xa_wordDelays, xa_witness, xa_witnessWords, xa_witnessCounts, xa_witnessRest, xa_startNodes, xa_pairSeen, xa_pairHeight, xa_queuePair, xa_queueFrom, xa_queueDepth, xa_queueGroup, xa_queueBit, xa_text, xa_ways, xa_openNode, xa_lastWord, xa_wordsTo, xa_settled) (nI k) (nI at_) := by
  have hN := hc.1
  obtain ⟨e2, l1, l2, _⟩ := da_cok_v hc hk
  have ck : (nI k).toNatClampNeg = k := nI_clamp (by omega)
  refine And.intro (vp_in_nI (by omega) (by omega)) (nm_r (e' := nI (da_L xa_wordLengths k)) (by rw [ck]; exact e2) ?_)
  rw [nI_add]
  refine pk_lt m (at_ + da_L xa_wordLengths k) (fun q => h0 (fun w => by have := w.1; omega)) (fun q => ?_)
  have c1 : (nI (at_ + da_L xa_wordLengths k)).toNatClampNeg = at_ + da_L xa_wordLengths k := nI_clamp (by omega)
  rw [c1]
  refine ⟨vp_in_nI (by omega) (by omega), ?_⟩
  rcases hr (at_ + da_L xa_wordLengths k) (by omega) q with ⟨r1, r2⟩ | ⟨r1, r2⟩
  · rw [r1]
    exact br_f da_10 ⟨da_L xa_wordLengths k + 1, xw_fw33 hc hk hm hz q (fun w => h1 ⟨q, w, r2⟩) (fun w => h0 (fun y => w y.2.1)) _ 0 (by omega) (by omega) (fun x hx => by omega)⟩
  · rw [r1]
    exact br_t rfl (h0 (fun w => r2 w.2.2))
theorem xw_pick5 {N m at_ wh : Nat} {z : Nat → Nat} {post : Int32 → Prop} (hc : da_cok N xa_wordCodes xa_wordLengths) (hm : m ≤ 232) (hat : at_ ≤ m) (hwh : wh < 2) (hz : ∀ j, j < m → xa_witness j = nI (z j) ∧ z j < 2)
    (hr : ∀ x, at_ < x → x ≤ m → (xa_witnessRest x = 1 ∧ da_rb N (da_L xa_wordLengths) (da_B xa_wordCodes xa_wordLengths) z x m) ∨ (xa_witnessRest x = 0 ∧ ¬ da_rb N (da_L xa_wordLengths) (da_B xa_wordCodes xa_wordLengths) z x m))
    (h1 : ∀ k, da_pk (da_ft N (da_L xa_wordLengths) (da_B xa_wordCodes xa_wordLengths) z m at_) N wh k → post (nI k)) (h0 : (∀ k, k < N → ¬ da_ft N (da_L xa_wordLengths) (da_B xa_wordCodes xa_wordLengths) z m at_ k) → post (-1)) :
    ∀ f i p, i ≤ N → N - i < f → ((p = -1 ∧ ∀ k, k < i → ¬ da_ft N (da_L xa_wordLengths) (da_B xa_wordCodes xa_wordLengths) z m at_ k) ∨ (wh = 1 ∧ ∃ k, k < i ∧ p = nI k ∧ da_ft N (da_L xa_wordLengths) (da_B xa_wordCodes xa_wordLengths) z m at_ k ∧ ∀ k', k' < i → da_ft N (da_L xa_wordLengths) (da_B xa_wordCodes xa_wordLengths) z m at_ k' → k' ≤ k)) →
      wX_pickWord_5 post (nI at_) (nI wh) xf_maxWords xf_maxLength xf_textCapacity (nI N) xf_nodeCount xf_found xf_codeDelay (nI m) xf_queueCount xf_textSize xf_decoderOn xf_decoderDone xf_readSize xf_settledAt xf_settledSize xa_wordCodes xa_wordLengths xa_nextNode xa_wordEnd xa_wordDelays xa_witness xa_witnessWords xa_witnessCounts xa_witnessRest xa_startNodes xa_pairSeen xa_pairHeight xa_queuePair xa_queueFrom xa_queueDepth xa_queueGroup xa_queueBit xa_text xa_ways xa_openNode xa_lastWord xa_wordsTo xa_settled f p (nI i) := by
  have hN := hc.1
  intro f
  induction f with
  | zero => intro i p _ h0; omega
  | succ f ih =>
    intro i p hi hf hp
    refine pk_le N i (fun q => ?_) (fun q => ?_)
    · have : i = N := by omega
      subst this
      rcases hp with ⟨p1, p2⟩ | ⟨p1, k, p2, p3, p4, p5⟩
      · rw [p1]; exact h0 p2
      · rw [p3]; exact h1 k ⟨p2, p4, fun k' a b => ⟨fun w => by omega, fun _ => p5 k' a b⟩⟩
    · refine xw_fitsWitness hc q hm hat hz hr (fun w => ?_) (fun w => ?_)
      · refine br_f da_10 (pk_eq wh 0 (fun y => ?_) (fun y => nm_r (nI_1 i) (ih (i + 1) (nI i) (by omega) (by omega) (Or.inr ⟨by omega, i, by omega, rfl, w, fun k' a b => by omega⟩))))
        rcases hp with ⟨p1, p2⟩ | ⟨p1, _⟩
        · refine h1 i ⟨q, w, fun k' a b => ⟨fun _ => ?_, fun w => absurd y w⟩⟩
          rcases Nat.lt_or_ge k' i with x | x
          · exact absurd b (p2 k' x)
          · exact x
        · omega
      · refine br_t rfl (nm_r (nI_1 i) (ih (i + 1) p (by omega) (by omega) ?_))
        rcases hp with ⟨p1, p2⟩ | ⟨p1, k, p2, p3, p4, p5⟩
        · refine Or.inl ⟨p1, fun k' a => ?_⟩
          rcases Nat.lt_or_ge k' i with x | x
          · exact p2 k' x
          · have : k' = i := by omega
            subst this; exact w
        · refine Or.inr ⟨p1, k, by omega, p3, p4, fun k' a b => ?_⟩
          rcases Nat.lt_or_ge k' i with x | x
          · exact p5 k' x b
          · have : k' = i := by omega
            subst this; exact absurd b w
theorem xw_pickWord {N m at_ wh : Nat} {z : Nat → Nat} {post : Int32 → Prop} (hc : da_cok N xa_wordCodes xa_wordLengths) (hm : m ≤ 232) (hat : at_ ≤ m) (hwh : wh < 2) (hz : ∀ j, j < m → xa_witness j = nI (z j) ∧ z j < 2)
    (hr : ∀ x, at_ < x → x ≤ m → (xa_witnessRest x = 1 ∧ da_rb N (da_L xa_wordLengths) (da_B xa_wordCodes xa_wordLengths) z x m) ∨ (xa_witnessRest x = 0 ∧ ¬ da_rb N (da_L xa_wordLengths) (da_B xa_wordCodes xa_wordLengths) z x m))
    (h1 : ∀ k, da_pk (da_ft N (da_L xa_wordLengths) (da_B xa_wordCodes xa_wordLengths) z m at_) N wh k → post (nI k)) (h0 : (∀ k, k < N → ¬ da_ft N (da_L xa_wordLengths) (da_B xa_wordCodes xa_wordLengths) z m at_ k) → post (-1)) :
    wpX_pickWord post (xf_maxWords, xf_maxLength, xf_textCapacity, nI N, xf_nodeCount, xf_found, xf_codeDelay, nI m, xf_queueCount, xf_textSize, xf_decoderOn, xf_decoderDone, xf_readSize, xf_settledAt, xf_settledSize, xa_wordCodes, xa_wordLengths, xa_nextNode, xa_wordEnd, xa_wordDelays, xa_witness, xa_witnessWords, xa_witnessCounts, xa_witnessRest, xa_startNodes, xa_pairSeen, xa_pairHeight, xa_queuePair, xa_queueFrom, xa_queueDepth, xa_queueGroup, xa_queueBit, xa_text, xa_ways, xa_openNode, xa_lastWord, xa_wordsTo, xa_settled) (nI at_) (nI wh) :=
  ⟨N + 1, xw_pick5 hc hm hat hwh hz hr h1 h0 (N + 1) 0 (-1) (by omega) (by omega) (Or.inl ⟨rfl, fun k hk => by omega⟩)⟩
theorem xw_mw17 {N m : Nat} {z : Nat → Nat} {post : SX → Prop} (hc : da_cok N xa_wordCodes xa_wordLengths) (hm : m ≤ 232) (hz : ∀ j, j < m → xa_witness j = nI (z j) ∧ z j < 2)
    (h : ∀ rs, (∀ x, x ≤ m → (rs x = 1 ∧ da_rb N (da_L xa_wordLengths) (da_B xa_wordCodes xa_wordLengths) z x m) ∨ (rs x = 0 ∧ ¬ da_rb N (da_L xa_wordLengths) (da_B xa_wordCodes xa_wordLengths) z x m)) → post (xf_maxWords, xf_maxLength, xf_textCapacity, nI N, xf_nodeCount, xf_found, xf_codeDelay, nI m, xf_queueCount, xf_textSize, xf_decoderOn, xf_decoderDone, xf_readSize, xf_settledAt, xf_settledSize, xa_wordCodes, xa_wordLengths, xa_nextNode, xa_wordEnd, xa_wordDelays, xa_witness, xa_witnessWords, xa_witnessCounts, rs, xa_startNodes, xa_pairSeen, xa_pairHeight, xa_queuePair, xa_queueFrom, xa_queueDepth, xa_queueGroup, xa_queueBit, xa_text, xa_ways, xa_openNode, xa_lastWord, xa_wordsTo, xa_settled)) :
    ∀ f i rs, i ≤ m → i < f → (∀ x, i ≤ x → x ≤ m → (rs x = 1 ∧ da_rb N (da_L xa_wordLengths) (da_B xa_wordCodes xa_wordLengths) z x m) ∨ (rs x = 0 ∧ ¬ da_rb N (da_L xa_wordLengths) (da_B xa_wordCodes xa_wordLengths) z x m)) →
      wX_markWitnessRests_17 post xf_maxWords xf_maxLength xf_textCapacity (nI N) xf_nodeCount xf_found xf_codeDelay (nI m) xf_queueCount xf_textSize xf_decoderOn xf_decoderDone xf_readSize xf_settledAt xf_settledSize f (nI i - 1) xa_wordCodes xa_wordLengths xa_nextNode xa_wordEnd xa_wordDelays xa_witness xa_witnessWords xa_witnessCounts rs xa_startNodes xa_pairSeen xa_pairHeight xa_queuePair xa_queueFrom xa_queueDepth xa_queueGroup xa_queueBit xa_text xa_ways xa_openNode xa_lastWord xa_wordsTo xa_settled := by
  have hok := da_cok_ok hc
  have hN := hc.1
  intro f
  induction f with
  | zero => intro i rs _ h0; omega
  | succ f ih =>
    intro i rs hi hf hr
    cases i with
    | zero =>
      rw [da_nm1]
      exact br_t da_neg1 (h rs (fun x hx => hr x (by omega) hx))
    | succ i =>
      rw [nI_pred]
      have ci : (nI i).toNatClampNeg = i := nI_clamp (by omega)
      refine br_f (nI_pos (by omega)) ?_
      have next : ∀ v, (v = 1 ∧ da_rb N (da_L xa_wordLengths) (da_B xa_wordCodes xa_wordLengths) z i m) ∨ (v = 0 ∧ ¬ da_rb N (da_L xa_wordLengths) (da_B xa_wordCodes xa_wordLengths) z i m) → wX_markWitnessRests_17 post xf_maxWords xf_maxLength xf_textCapacity (nI N) xf_nodeCount xf_found xf_codeDelay (nI m) xf_queueCount xf_textSize xf_decoderOn xf_decoderDone xf_readSize xf_settledAt xf_settledSize f (nI i - 1) xa_wordCodes xa_wordLengths xa_nextNode xa_wordEnd xa_wordDelays xa_witness xa_witnessWords xa_witnessCounts (upd rs i v) xa_startNodes xa_pairSeen xa_pairHeight xa_queuePair xa_queueFrom xa_queueDepth xa_queueGroup xa_queueBit xa_text xa_ways xa_openNode xa_lastWord xa_wordsTo xa_settled := by
        intro v hv
        refine ih i _ (by omega) (by omega) (fun x h1 h2 => ?_)
        by_cases e : x = i
        · subst e; rw [pk_us]; exact hv
        · rw [pk_un e]; exact hr x (by omega) h2
      refine xw_pickWord (wh := 0) hc hm (by omega) (by omega) hz (fun x h1 h2 => hr x (by omega) h2) (fun k hk => ?_) (fun hk => ?_)
      · rw [ci]
        refine br_f (nI_pos (by have := hk.1; omega)) ⟨vp_in_nI (by omega) (by omega), nm_e (nm_r (da_pm i) (next _ (Or.inl ⟨rfl, ?_⟩)))⟩
        exact (da_rb_step hok (by omega)).mpr ⟨k, hk.1, hk.2.1⟩
      · rw [ci]
        refine br_t da_neg1 ⟨vp_in_nI (by omega) (by omega), nm_e (nm_r (da_pm i) (next _ (Or.inr ⟨rfl, ?_⟩)))⟩
        intro w
        obtain ⟨k, a, b⟩ := (da_rb_step hok (by omega)).mp w
        exact hk k a b
theorem xw_markWitnessRests {N m : Nat} {z : Nat → Nat} {post : SX → Prop} (hc : da_cok N xa_wordCodes xa_wordLengths) (hm : m ≤ 232) (hz : ∀ j, j < m → xa_witness j = nI (z j) ∧ z j < 2)
    (h : ∀ rs, (∀ x, x ≤ m → (rs x = 1 ∧ da_rb N (da_L xa_wordLengths) (da_B xa_wordCodes xa_wordLengths) z x m) ∨ (rs x = 0 ∧ ¬ da_rb N (da_L xa_wordLengths) (da_B xa_wordCodes xa_wordLengths) z x m)) → post (xf_maxWords, xf_maxLength, xf_textCapacity, nI N, xf_nodeCount, xf_found, xf_codeDelay, nI m, xf_queueCount, xf_textSize, xf_decoderOn, xf_decoderDone, xf_readSize, xf_settledAt, xf_settledSize, xa_wordCodes, xa_wordLengths, xa_nextNode, xa_wordEnd, xa_wordDelays, xa_witness, xa_witnessWords, xa_witnessCounts, rs, xa_startNodes, xa_pairSeen, xa_pairHeight, xa_queuePair, xa_queueFrom, xa_queueDepth, xa_queueGroup, xa_queueBit, xa_text, xa_ways, xa_openNode, xa_lastWord, xa_wordsTo, xa_settled)) :
    wpX_markWitnessRests post (xf_maxWords, xf_maxLength, xf_textCapacity, nI N, xf_nodeCount, xf_found, xf_codeDelay, nI m, xf_queueCount, xf_textSize, xf_decoderOn, xf_decoderDone, xf_readSize, xf_settledAt, xf_settledSize, xa_wordCodes, xa_wordLengths, xa_nextNode, xa_wordEnd, xa_wordDelays, xa_witness, xa_witnessWords, xa_witnessCounts, xa_witnessRest, xa_startNodes, xa_pairSeen, xa_pairHeight, xa_queuePair, xa_queueFrom, xa_queueDepth, xa_queueGroup, xa_queueBit, xa_text, xa_ways, xa_openNode, xa_lastWord, xa_wordsTo, xa_settled) := by
  have cm : (nI m).toNatClampNeg = m := nI_clamp (by omega)
  refine And.intro (vp_in_nI (by omega) (by omega)) ?_
  rw [cm]
  refine nm_e (nm_e ⟨m + 1, xw_mw17 hc hm hz h (m + 1) m _ (Nat.le_refl _) (by omega) (fun x h1 h2 => ?_)⟩)
  have : x = m := by omega
  subst this
  exact Or.inl ⟨pk_us, da_rb_e⟩
theorem xw_wr18 {N m wh : Nat} {z : Nat → Nat} {wc : Nat → Int32} {post : SX → Prop} {J6 : Int32 → (Nat → Int32) → (Nat → Int32) → (Nat → Int32) → (Nat → Int32) → (Nat → Int32) → (Nat → Int32) → (Nat → Int32) → (Nat → Int32) → (Nat → Int32) → (Nat → Int64) → (Nat → Int32) → (Nat → Int32) → (Nat → Int32) → (Nat → Int32) → (Nat → Int32) → (Nat → Int32) → (Nat → Int32) → (Nat → Int32) → (Nat → Int32) → (Nat → Int32) → (Nat → Int32) → (Nat → Int32) → (Nat → Int32) → Prop} (hc : da_cok N xa_wordCodes xa_wordLengths) (hm : m ≤ 232) (h1m : 1 ≤ m) (hwh : wh < 2) (hz : ∀ j, j < m → xa_witness j = nI (z j) ∧ z j < 2)
    (hr : ∀ x, x ≤ m → (xa_witnessRest x = 1 ∧ da_rb N (da_L xa_wordLengths) (da_B xa_wordCodes xa_wordLengths) z x m) ∨ (xa_witnessRest x = 0 ∧ ¬ da_rb N (da_L xa_wordLengths) (da_B xa_wordCodes xa_wordLengths) z x m))
    (hJ : ∀ cnt ww, da_gw N (da_L xa_wordLengths) (da_B xa_wordCodes xa_wordLengths) z m wh cnt ww → (∀ j, j < wh * 256 → ww j = xa_witnessWords j) → J6 (nI (wh + 1)) xa_wordCodes xa_wordLengths xa_nextNode xa_wordEnd xa_wordDelays xa_witness ww (upd wc wh cnt) xa_witnessRest xa_startNodes xa_pairSeen xa_pairHeight xa_queuePair xa_queueFrom xa_queueDepth xa_queueGroup xa_queueBit xa_text xa_ways xa_openNode xa_lastWord xa_wordsTo xa_settled) :
    ∀ f at_ (pre : List Nat) ww, at_ ≤ m → m - at_ < f → pre.length ≤ at_ → (∀ j, j < wh * 256 → ww j = xa_witnessWords j) → (∀ j, j < pre.length → ww (wh * 256 + j) = nI (pre.getD j 0)) → (∀ l, da_gr N (da_L xa_wordLengths) (da_B xa_wordCodes xa_wordLengths) z m wh at_ l → da_gr N (da_L xa_wordLengths) (da_B xa_wordCodes xa_wordLengths) z m wh 0 (pre ++ l)) → (da_rb N (da_L xa_wordLengths) (da_B xa_wordCodes xa_wordLengths) z at_ m ∨ (pre = [] ∧ at_ = 0)) →
      wX_findWitnessReadings_18 post J6 (nI wh) xf_maxWords xf_maxLength xf_textCapacity (nI N) xf_nodeCount xf_found xf_codeDelay (nI m) xf_queueCount xf_textSize xf_decoderOn xf_decoderDone xf_readSize xf_settledAt xf_settledSize f (nI at_) (nI pre.length) (nI pre.length) xa_wordCodes xa_wordLengths xa_nextNode xa_wordEnd xa_wordDelays xa_witness ww wc xa_witnessRest xa_startNodes xa_pairSeen xa_pairHeight xa_queuePair xa_queueFrom xa_queueDepth xa_queueGroup xa_queueBit xa_text xa_ways xa_openNode xa_lastWord xa_wordsTo xa_settled := by
  have hok := da_cok_ok hc
  have hN := hc.1
  intro f
  induction f with
  | zero => intro at_ pre ww _ h0; omega
  | succ f ih =>
    intro at_ pre ww hat hf hpl hlo hww hg hrb
    have cw : (nI wh).toNatClampNeg = wh := nI_clamp (by omega)
    have fin : at_ = m → ∃ l, da_gr N (da_L xa_wordLengths) (da_B xa_wordCodes xa_wordLengths) z m wh 0 l ∧ nI pre.length = nI l.length ∧ l.length ≤ m ∧ ∀ j, j < l.length → ww (wh * 256 + j) = nI (l.getD j 0) := by
      intro e
      have := hg [] e
      rw [List.append_nil] at this
      exact ⟨pre, this, rfl, by omega, hww⟩
    refine pk_le 256 pre.length (fun q => by omega) (fun q => ?_)
    refine pk_le m at_ (fun q => ?_) (fun q => ?_)
    · rw [cw]
      exact ⟨vp_in_nI (by omega) (by omega), nm_e (nm_r (nI_1 wh) (hJ _ ww (Or.inl (fin (by omega))) hlo))⟩
    · clear fin
      refine xw_pickWord hc hm hat hwh hz (fun x h1 h2 => hr x h2) (fun k hk => ?_) (fun hk => ?_)
      · have hkN := hk.1
        obtain ⟨e2, l1, l2, _⟩ := da_cok_v hc hkN
        have ck : (nI k).toNatClampNeg = k := nI_clamp (by omega)
        have ei : nI wh * 256 + nI pre.length = nI (wh * 256 + pre.length) := by rw [show (256 : Int32) = nI 256 from rfl, pk_mul, nI_add]
        rw [ei, nI_clamp (show wh * 256 + pre.length < 2 ^ 31 by omega), ck, e2]
        refine br_t (nI_pos' (by omega)) ⟨vp_in_nI (by omega) (by omega), nm_e (nm_r (nI_1 _) ⟨vp_in_nI (by omega) (by omega), nm_r (nI_add _ _) (nm_r (nI_1 _) ?_)⟩)⟩
        have hfit := hk.2.1
        have := ih (at_ + da_L xa_wordLengths k) (pre ++ [k]) (upd ww (wh * 256 + pre.length) (nI k)) hfit.1 (by omega) (by rw [List.length_append]; simp; omega) (fun j hj => by rw [pk_un (by omega)]; exact hlo j hj) (fun j hj => ?_) (fun l hl => ?_) (Or.inl hfit.2.2)
        · rw [List.length_append] at this
          exact this
        · rw [List.length_append] at hj
          simp at hj
          rcases Nat.lt_or_ge j pre.length with y | y
          · rw [pk_un (by omega), da_getD_l y]; exact hww j y
          · have : j = pre.length := by omega
            subst this
            rw [pk_us, da_getD_e]
        · rw [List.append_assoc]
          exact hg (k :: l) ⟨hk, hl⟩
      · rw [cw]
        refine br_f (by decide) ⟨vp_in_nI (by omega) (by omega), nm_e (nm_r (nI_1 wh) (hJ _ ww (Or.inr ?_) hlo))⟩
        have nr : ¬ da_rb N (da_L xa_wordLengths) (da_B xa_wordCodes xa_wordLengths) z at_ m := by
          intro w
          obtain ⟨k, a, b⟩ := (da_rb_step hok (by omega)).mp w
          exact hk k a b
        rcases hrb with w | ⟨w1, w2⟩
        · exact absurd w nr
        · subst w1; subst w2
          exact ⟨nr, rfl⟩
theorem xw_findWitnessReadings {N m : Nat} {z : Nat → Nat} {post : SX → Prop} (hc : da_cok N xa_wordCodes xa_wordLengths) (hm : m ≤ 232) (h1m : 1 ≤ m) (hz : ∀ j, j < m → xa_witness j = nI (z j) ∧ z j < 2)
    (h : ∀ rs wc ww, (∀ wh, wh < 2 → da_gw N (da_L xa_wordLengths) (da_B xa_wordCodes xa_wordLengths) z m wh (wc wh) ww) → post (xf_maxWords, xf_maxLength, xf_textCapacity, nI N, xf_nodeCount, xf_found, xf_codeDelay, nI m, xf_queueCount, xf_textSize, xf_decoderOn, xf_decoderDone, xf_readSize, xf_settledAt, xf_settledSize, xa_wordCodes, xa_wordLengths, xa_nextNode, xa_wordEnd, xa_wordDelays, xa_witness, ww, wc, rs, xa_startNodes, xa_pairSeen, xa_pairHeight, xa_queuePair, xa_queueFrom, xa_queueDepth, xa_queueGroup, xa_queueBit, xa_text, xa_ways, xa_openNode, xa_lastWord, xa_wordsTo, xa_settled)) :
    wpX_findWitnessReadings post (xf_maxWords, xf_maxLength, xf_textCapacity, nI N, xf_nodeCount, xf_found, xf_codeDelay, nI m, xf_queueCount, xf_textSize, xf_decoderOn, xf_decoderDone, xf_readSize, xf_settledAt, xf_settledSize, xa_wordCodes, xa_wordLengths, xa_nextNode, xa_wordEnd, xa_wordDelays, xa_witness, xa_witnessWords, xa_witnessCounts, xa_witnessRest, xa_startNodes, xa_pairSeen, xa_pairHeight, xa_queuePair, xa_queueFrom, xa_queueDepth, xa_queueGroup, xa_queueBit, xa_text, xa_ways, xa_openNode, xa_lastWord, xa_wordsTo, xa_settled) := by
  unfold wpX_findWitnessReadings
  refine xw_markWitnessRests hc hm hz (fun rs hr => ⟨3, ?_⟩)
  refine br_f (by decide) ⟨m + 1, ?_⟩
  refine xw_wr18 (wh := 0) hc hm h1m (by omega) hz hr (fun cnt ww h1 h2 => ?_) (m + 1) 0 [] _ (by omega) (by omega) (by simp) (fun j hj => rfl) (fun j hj => by simp at hj) (fun l hl => hl) (Or.inr ⟨rfl, rfl⟩)
  refine br_f (by decide) ⟨m + 1, ?_⟩
  refine xw_wr18 (wh := 1) hc hm h1m (by omega) hz hr (fun cnt' ww' h1' h2' => ?_) (m + 1) 0 [] _ (by omega) (by omega) (by simp) (fun j hj => rfl) (fun j hj => by simp at hj) (fun l hl => hl) (Or.inr ⟨rfl, rfl⟩)
  refine br_t (by decide) (h rs _ ww' (fun wh hwh => ?_))
  have : wh = 0 ∨ wh = 1 := by omega
  rcases this with e | e
  · subst e
    rw [pk_un (by omega), pk_us]
    rcases h1 with ⟨l, a1, a2, a3, a4⟩ | w
    · exact Or.inl ⟨l, a1, a2, a3, fun j hj => by rw [h2' _ (by omega)]; exact a4 j hj⟩
    · exact Or.inr w
  · subst e
    rw [pk_us]; exact h1'
end
end
section
/-! the reference's rounds: distances and lives of pairs of readers -/
def da_nv (a : Nat → Int32) (p : Nat) : Nat := (a p).toNatClampNeg
def da_no (T : Nat → Nat → Nat → Prop) (r s t : Nat) (near : Nat → Int32) : Prop := near (s * 64 + t) = nI (da_nv near (s * 64 + t)) ∧ da_nv near (s * 64 + t) ≤ 9999 ∧ (da_nv near (s * 64 + t) < 9999 → da_nr T (da_nv near (s * 64 + t)) s t) ∧ ∀ m, m ≤ r → da_nr T m s t → da_nv near (s * 64 + t) ≤ m
def da_lo (T : Nat → Nat → Nat → Prop) (r Tm s t : Nat) (life : Nat → Int32) : Prop := life (s * 64 + t) = nI (da_nv life (s * 64 + t)) ∧ da_nv life (s * 64 + t) ≤ Tm ∧ da_lv T (da_nv life (s * 64 + t)) s t ∧ ∀ m, m ≤ r → m ≤ 240 → da_lv T m s t → m ≤ da_nv life (s * 64 + t)
def da_ri (N : Nat) (L : Nat → Nat) (B : Nat → Nat → Nat) (r p Tm : Nat) (near life : Nat → Int32) : Prop := ∀ s t, da_st N L s → da_st N L t → (da_no (da_t1 N L B) r s t near ∧ da_lo (da_t1 N L B) r Tm s t life) ∧ (s * 64 + t < p → da_no (da_t1 N L B) (r + 1) s t near ∧ da_lo (da_t1 N L B) (r + 1) Tm s t life)
def da_fq (near life : Nat → Int32) (p q : Nat) : Prop := near p ≤ near q + 1 ∧ (life q < life p ∨ 240 ≤ life p)
def da_pg (T : Nat → Nat → Nat → Prop) (r s t s' t' : Nat) (near life : Nat → Int32) : Prop := (∀ m, m ≤ r → da_nr T m s' t' → da_nv near (s * 64 + t) ≤ m + 1) ∧ (∀ m, m ≤ r → m + 1 ≤ 240 → da_lv T m s' t' → m + 1 ≤ da_nv life (s * 64 + t))
def da_fz (N : Nat) (L : Nat → Nat) (B : Nat → Nat → Nat) (p : Nat) (near life : Nat → Int32) : Prop := ∀ s t, da_st N L s → da_st N L t → s * 64 + t < p → ∀ c s' t', da_t1 N L B s c s' → da_t1 N L B t c t' → da_fq near life (s * 64 + t) (s' * 64 + t')
def da_rp (N : Nat) (L : Nat → Nat) (B : Nat → Nat → Nat) (r p Tm : Nat) (fl : Int32) (near life : Nat → Int32) : Prop := da_ri N L B r p Tm near life ∧ (fl = 1 ∨ (fl = 0 ∧ da_fz N L B p near life))
def da_rx (N : Nat) (L : Nat → Nat) (B : Nat → Nat → Nat) (r s t ck k2 Tm : Nat) (fl : Int32) (near life : Nat → Int32) : Prop :=
  da_rp N L B r (s * 64 + t) Tm fl near life ∧
  ∀ k1 k c s' t', da_tr N L B s k1 c s' → da_tr N L B t k c t' → (k1 * 2 + c < ck ∨ (k1 * 2 + c = ck ∧ k < k2)) → da_pg (da_t1 N L B) r s t s' t' near life ∧ (fl = 0 → da_fq near life (s * 64 + t) (s' * 64 + t'))
theorem da_nv_us {a : Nat → Int32} {p v : Nat} (h : v < 2 ^ 31) : da_nv (upd a p (nI v)) p = v := by unfold da_nv; rw [pk_us, nI_clamp h]
theorem da_nv_un {a : Nat → Int32} {p q : Nat} {x : Int32} (h : q ≠ p) : da_nv (upd a p x) q = da_nv a q := by unfold da_nv; rw [pk_un h]
section
variable {N : Nat} {L : Nat → Nat} {B : Nat → Nat → Nat} {r s t ck k2 Tm : Nat} {fl : Int32} {near life : Nat → Int32}
theorem da_no_un {T : Nat → Nat → Nat → Prop} {s0 t0 p : Nat} {x : Int32} (hp : s0 * 64 + t0 ≠ p) (h : da_no T r s0 t0 near) : da_no T r s0 t0 (upd near p x) := by
  unfold da_no at h ⊢
  rw [da_nv_un hp, pk_un hp]; exact h
theorem da_lo_un {T : Nat → Nat → Nat → Prop} {s0 t0 p : Nat} {x : Int32} (hp : s0 * 64 + t0 ≠ p) (h : da_lo T r Tm s0 t0 life) : da_lo T r Tm s0 t0 (upd life p x) := by
  unfold da_lo at h ⊢
  rw [da_nv_un hp, pk_un hp]; exact h
theorem da_lo_up {T : Nat → Nat → Nat → Prop} {s0 t0 Tm' : Nat} (hT : Tm ≤ Tm') (h : da_lo T r Tm s0 t0 life) : da_lo T r Tm' s0 t0 life :=
  ⟨h.1, Nat.le_trans h.2.1 hT, h.2.2⟩
theorem da_ri_up {p Tm' : Nat} (hT : Tm ≤ Tm') (h : da_ri N L B r p Tm near life) : da_ri N L B r p Tm' near life :=
  fun s t hs ht => ⟨⟨(h s t hs ht).1.1, da_lo_up hT (h s t hs ht).1.2⟩, fun q => ⟨((h s t hs ht).2 q).1, da_lo_up hT ((h s t hs ht).2 q).2⟩⟩
theorem da_pe (hk : da_ok N L B) {s t s' t' : Nat} (h2 : da_st N L t) (h4 : da_st N L t') (e : s * 64 + t = s' * 64 + t') : s = s' ∧ t = t' := by
  have := da_st_lt hk h2
  have := da_st_lt hk h4
  omega
/-- a nearer successor: the distance falls -/
theorem da_rx_n (hk : da_ok N L B) (hs : da_st N L s) (ht : da_st N L t) {k1 c s' t' : Nat} (t1 : da_tr N L B s k1 c s') (t2 : da_tr N L B t k2 c t') (h : da_rx N L B r s t ck k2 Tm fl near life) (hn : ¬ near (s * 64 + t) ≤ near (s' * 64 + t') + 1) :
    da_rx N L B r s t ck k2 Tm 1 (upd near (s * 64 + t) (near (s' * 64 + t') + 1)) life ∧ upd near (s * 64 + t) (near (s' * 64 + t') + 1) (s * 64 + t) ≤ upd near (s * 64 + t) (near (s' * 64 + t') + 1) (s' * 64 + t') + 1 := by
  obtain ⟨⟨hri, hfl⟩, hpr⟩ := h
  have hs' := da_t1_st hk ⟨k1, t1⟩
  have ht' := da_t1_st hk ⟨k2, t2⟩
  obtain ⟨⟨n1, n2, n3, n4⟩, _⟩ := (hri s t hs ht).1
  obtain ⟨⟨q1, q2, q3, q4⟩, _⟩ := (hri s' t' hs' ht').1
  have lt : da_nv near (s' * 64 + t') + 1 < da_nv near (s * 64 + t) := by
    rcases Nat.lt_or_ge (da_nv near (s' * 64 + t') + 1) (da_nv near (s * 64 + t)) with y | y
    · exact y
    · exfalso; apply hn
      rw [n1, q1, nI_1]
      exact nI_le y (by omega)
  have ne : s' * 64 + t' ≠ s * 64 + t := by intro e; rw [e] at lt; omega
  rw [q1, nI_1]
  have e1 : da_nv (upd near (s * 64 + t) (nI (da_nv near (s' * 64 + t') + 1))) (s * 64 + t) = da_nv near (s' * 64 + t') + 1 := da_nv_us (by omega)
  have nrq : da_nr (da_t1 N L B) (da_nv near (s' * 64 + t') + 1) s t := ⟨c, s', t', ⟨k1, t1⟩, ⟨k2, t2⟩, q3 (by omega)⟩
  refine ⟨⟨⟨fun s0 t0 h0 h0' => ?_, Or.inl rfl⟩, fun a1 a2 c0 s0 t0 u1 u2 u3 => ⟨⟨fun m hm hnr => ?_, ((hpr a1 a2 c0 s0 t0 u1 u2 u3).1).2⟩, fun z => absurd z da_10⟩⟩, ?_⟩
  · by_cases e : s0 * 64 + t0 = s * 64 + t
    · obtain ⟨ea, eb⟩ := da_pe hk h0' ht e
      subst ea; subst eb
      refine ⟨⟨⟨by rw [pk_us, e1], by omega, fun _ => by rw [e1]; exact nrq, fun m hm hnr => by rw [e1]; have := n4 m hm hnr; omega⟩, (hri s0 t0 hs ht).1.2⟩, fun z => by omega⟩
    · refine ⟨⟨da_no_un e (hri s0 t0 h0 h0').1.1, (hri s0 t0 h0 h0').1.2⟩, fun z => ⟨da_no_un e ((hri s0 t0 h0 h0').2 z).1, ((hri s0 t0 h0 h0').2 z).2⟩⟩
  · rw [e1]
    have := ((hpr a1 a2 c0 s0 t0 u1 u2 u3).1).1 m hm hnr
    omega
  · rw [pk_us, pk_un ne, q1, nI_1]
    exact nI_le (Nat.le_refl _) (by omega)
theorem da_tr_u {s k c s1 s2 : Nat} (h1 : da_tr N L B s k c s1) (h2 : da_tr N L B s k c s2) : s1 = s2 := h1.2.2.2.2.trans h2.2.2.2.2.symm
/-- a longer life -/
theorem da_rx_l (hk : da_ok N L B) (hs : da_st N L s) (ht : da_st N L t) (hTm : Tm + 1 < 2 ^ 31) {k1 c s' t' : Nat} (eck : k1 * 2 + c = ck) (t1 : da_tr N L B s k1 c s') (t2 : da_tr N L B t k2 c t') (h : da_rx N L B r s t ck k2 Tm fl near life) (hn : near (s * 64 + t) ≤ near (s' * 64 + t') + 1) (hl : ¬ life (s' * 64 + t') < life (s * 64 + t)) (h24 : ¬ 240 ≤ life (s * 64 + t)) :
    da_rx N L B r s t ck (k2 + 1) (Tm + 1) 1 near (upd life (s * 64 + t) (life (s' * 64 + t') + 1)) := by
  obtain ⟨⟨hri, hfl⟩, hpr⟩ := h
  have hs' := da_t1_st hk ⟨k1, t1⟩
  have ht' := da_t1_st hk ⟨k2, t2⟩
  have hc := da_t1_b hk ⟨k1, t1⟩
  obtain ⟨⟨n1, n2, n3, n4⟩, l1, l2, l3, l4⟩ := (hri s t hs ht).1
  obtain ⟨⟨q1, q2, q3, q4⟩, v1, v2, v3, v4⟩ := (hri s' t' hs' ht').1
  have ge : da_nv life (s * 64 + t) ≤ da_nv life (s' * 64 + t') := by
    rcases Nat.lt_or_ge (da_nv life (s' * 64 + t')) (da_nv life (s * 64 + t)) with y | y
    · exfalso; apply hl
      rw [l1, v1]; exact nI_lt y (by omega)
    · exact y
  have nle : da_nv near (s * 64 + t) ≤ da_nv near (s' * 64 + t') + 1 := by
    rw [n1, q1, nI_1] at hn
    exact (nI_leI (by omega) (by omega)).mp hn
  rw [v1, nI_1]
  have e1 : da_nv (upd life (s * 64 + t) (nI (da_nv life (s' * 64 + t') + 1))) (s * 64 + t) = da_nv life (s' * 64 + t') + 1 := da_nv_us (by omega)
  refine ⟨⟨fun s0 t0 h0 h0' => ?_, Or.inl rfl⟩, fun a1 a2 c0 s0 t0 u1 u2 u3 => ⟨⟨fun m hm hnr => ?_, fun m hm hm2 hlv => ?_⟩, fun z => absurd z da_10⟩⟩
  · by_cases e : s0 * 64 + t0 = s * 64 + t
    · obtain ⟨ea, eb⟩ := da_pe hk h0' ht e
      subst ea; subst eb
      refine ⟨⟨⟨n1, n2, n3, n4⟩, ⟨by rw [pk_us, e1], by omega, by rw [e1]; exact ⟨c, s', t', ⟨k1, t1⟩, ⟨k2, t2⟩, v3⟩, fun m hm hm2 hlv => by rw [e1]; have := l4 m hm hm2 hlv; omega⟩⟩, fun z => by omega⟩
    · refine ⟨⟨(hri s0 t0 h0 h0').1.1, da_lo_up (by omega) (da_lo_un e (hri s0 t0 h0 h0').1.2)⟩, fun z => ⟨((hri s0 t0 h0 h0').2 z).1, da_lo_up (by omega) (da_lo_un e ((hri s0 t0 h0 h0').2 z).2)⟩⟩
  · rcases u3 with z | ⟨z1, z2⟩
    · exact ((hpr a1 a2 c0 s0 t0 u1 u2 (Or.inl z)).1).1 m hm hnr
    · rcases Nat.lt_or_ge a2 k2 with y | y
      · exact ((hpr a1 a2 c0 s0 t0 u1 u2 (Or.inr ⟨z1, y⟩)).1).1 m hm hnr
      · have hc0 := da_t1_b hk ⟨a1, u1⟩
        have ea : a2 = k2 := by omega
        have eb : a1 = k1 := by omega
        have ec : c0 = c := by omega
        subst ea; subst eb; subst ec
        have := da_tr_u u1 t1
        have := da_tr_u u2 t2
        subst_vars
        have := q4 m hm hnr
        omega
  · rw [e1]
    rcases u3 with z | ⟨z1, z2⟩
    · have := ((hpr a1 a2 c0 s0 t0 u1 u2 (Or.inl z)).1).2 m hm hm2 hlv
      omega
    · rcases Nat.lt_or_ge a2 k2 with y | y
      · have := ((hpr a1 a2 c0 s0 t0 u1 u2 (Or.inr ⟨z1, y⟩)).1).2 m hm hm2 hlv
        omega
      · have hc0 := da_t1_b hk ⟨a1, u1⟩
        have ea : a2 = k2 := by omega
        have eb : a1 = k1 := by omega
        have ec : c0 = c := by omega
        subst ea; subst eb; subst ec
        have := da_tr_u u1 t1
        have := da_tr_u u2 t2
        subst_vars
        have := v4 m hm (by omega) hlv
        omega
/-- nothing to do at this successor -/
theorem da_rx_k (hk : da_ok N L B) (hs : da_st N L s) (ht : da_st N L t) (hTm : Tm < 2 ^ 31) {k1 c s' t' : Nat} (eck : k1 * 2 + c = ck) (t1 : da_tr N L B s k1 c s') (t2 : da_tr N L B t k2 c t') (h : da_rx N L B r s t ck k2 Tm fl near life) (hn : near (s * 64 + t) ≤ near (s' * 64 + t') + 1) (hl : life (s' * 64 + t') < life (s * 64 + t) ∨ 240 ≤ life (s * 64 + t)) :
    da_rx N L B r s t ck (k2 + 1) (Tm + 1) fl near life := by
  obtain ⟨⟨hri, hfl⟩, hpr⟩ := h
  have hs' := da_t1_st hk ⟨k1, t1⟩
  have ht' := da_t1_st hk ⟨k2, t2⟩
  have hc := da_t1_b hk ⟨k1, t1⟩
  obtain ⟨⟨n1, n2, n3, n4⟩, l1, l2, l3, l4⟩ := (hri s t hs ht).1
  obtain ⟨⟨q1, q2, q3, q4⟩, v1, v2, v3, v4⟩ := (hri s' t' hs' ht').1
  have nle : da_nv near (s * 64 + t) ≤ da_nv near (s' * 64 + t') + 1 := by
    have hn' := hn
    rw [n1, q1, nI_1] at hn'
    exact (nI_leI (by omega) (by omega)).mp hn'
  have lle : da_nv life (s' * 64 + t') < da_nv life (s * 64 + t) ∨ 240 ≤ da_nv life (s * 64 + t) := by
    rcases hl with y | y
    · rw [l1, v1] at y
      exact Or.inl ((nI_ltI (by omega) (by omega)).mp y)
    · rw [l1] at y
      exact Or.inr ((nI_leI (a := 240) (by omega) (by omega)).mp y)
  refine ⟨⟨da_ri_up (by omega) hri, hfl⟩, fun a1 a2 c0 s0 t0 u1 u2 u3 => ?_⟩
  rcases u3 with z | ⟨z1, z2⟩
  · exact hpr a1 a2 c0 s0 t0 u1 u2 (Or.inl z)
  · rcases Nat.lt_or_ge a2 k2 with y | y
    · exact hpr a1 a2 c0 s0 t0 u1 u2 (Or.inr ⟨z1, y⟩)
    · have hc0 := da_t1_b hk ⟨a1, u1⟩
      have ea : a2 = k2 := by omega
      have eb : a1 = k1 := by omega
      have ec : c0 = c := by omega
      subst ea; subst eb; subst ec
      have := da_tr_u u1 t1
      have := da_tr_u u2 t2
      subst_vars
      refine ⟨⟨fun m hm hnr => ?_, fun m hm hm2 hlv => ?_⟩, fun _ => ⟨hn, hl⟩⟩
      · have := q4 m hm hnr
        omega
      · have := v4 m hm (by omega) hlv
        omega
theorem da_rx_no (h : da_rx N L B r s t ck k2 Tm fl near life) {c : Nat} (ec : ck % 2 = c) (hk : da_ok N L B) (hno : ∀ t', ¬ da_tr N L B t k2 c t') : da_rx N L B r s t ck (k2 + 1) (Tm + 1) fl near life := by
  refine ⟨⟨da_ri_up (by omega) h.1.1, h.1.2⟩, fun a1 a2 c0 s0 t0 u1 u2 u3 => ?_⟩
  rcases u3 with z | ⟨z1, z2⟩
  · exact h.2 a1 a2 c0 s0 t0 u1 u2 (Or.inl z)
  · rcases Nat.lt_or_ge a2 k2 with y | y
    · exact h.2 a1 a2 c0 s0 t0 u1 u2 (Or.inr ⟨z1, y⟩)
    · have hc0 := da_t1_b hk ⟨a1, u1⟩
      have ea : a2 = k2 := by omega
      have eb : c0 = c := by omega
      subst ea; subst eb
      exact absurd u2 (hno t0)
theorem da_rx_ck (h : da_rx N L B r s t ck N Tm fl near life) : da_rx N L B r s t (ck + 1) 0 Tm fl near life := by
  refine ⟨h.1, fun a1 a2 c0 s0 t0 u1 u2 u3 => h.2 a1 a2 c0 s0 t0 u1 u2 ?_⟩
  rcases Nat.lt_or_ge (a1 * 2 + c0) ck with y | y
  · exact Or.inl y
  · exact Or.inr ⟨by omega, u2.1⟩
theorem da_rx_nk (hk : da_ok N L B) (h : da_rx N L B r s t ck 0 Tm fl near life) (hno : ∀ s', ¬ da_tr N L B s (ck / 2) (ck % 2) s') : da_rx N L B r s t (ck + 1) 0 Tm fl near life := by
  refine ⟨h.1, fun a1 a2 c0 s0 t0 u1 u2 u3 => ?_⟩
  rcases Nat.lt_or_ge (a1 * 2 + c0) ck with y | y
  · exact h.2 a1 a2 c0 s0 t0 u1 u2 (Or.inl y)
  · have hc0 := da_t1_b hk ⟨a1, u1⟩
    have ea : a1 = ck / 2 := by omega
    have eb : c0 = ck % 2 := by omega
    subst ea; subst eb
    exact absurd u1 (hno s0)
/-- the pair is done in this round -/
theorem da_rx_end (hk : da_ok N L B) (hs : da_st N L s) (ht : da_st N L t) (h : da_rx N L B r s t (2 * N) 0 Tm fl near life) : da_rp N L B r (s * 64 + t + 1) Tm fl near life := by
  obtain ⟨⟨hri, hfl⟩, hpr⟩ := h
  have all : ∀ c s' t', da_t1 N L B s c s' → da_t1 N L B t c t' → da_pg (da_t1 N L B) r s t s' t' near life ∧ (fl = 0 → da_fq near life (s * 64 + t) (s' * 64 + t')) := by
    rintro c s' t' ⟨k1, u1⟩ ⟨k, u2⟩
    have hc := da_t1_b hk ⟨k1, u1⟩
    have := u1.1
    exact hpr k1 k c s' t' u1 u2 (Or.inl (by omega))
  refine ⟨fun s0 t0 h0 h0' => ⟨(hri s0 t0 h0 h0').1, fun z => ?_⟩, ?_⟩
  · by_cases e : s0 * 64 + t0 = s * 64 + t
    · obtain ⟨ea, eb⟩ := da_pe hk h0' ht e
      subst ea; subst eb
      obtain ⟨⟨n1, n2, n3, n4⟩, l1, l2, l3, l4⟩ := (hri s0 t0 h0 h0').1
      refine ⟨⟨n1, n2, n3, fun m hm hnr => ?_⟩, l1, l2, l3, fun m hm hm2 hlv => ?_⟩
      · cases m with
        | zero => exact n4 0 (by omega) hnr
        | succ m =>
          obtain ⟨c, s', t', u1, u2, u3⟩ := hnr
          exact ((all c s' t' u1 u2).1).1 m (by omega) u3
      · cases m with
        | zero => omega
        | succ m =>
          obtain ⟨c, s', t', u1, u2, u3⟩ := hlv
          exact ((all c s' t' u1 u2).1).2 m (by omega) hm2 u3
    · exact (hri s0 t0 h0 h0').2 (by omega)
  · rcases hfl with y | ⟨y1, y2⟩
    · exact Or.inl y
    · refine Or.inr ⟨y1, fun s0 t0 h0 h0' z c s' t' u1 u2 => ?_⟩
      by_cases e : s0 * 64 + t0 = s * 64 + t
      · obtain ⟨ea, eb⟩ := da_pe hk h0' ht e
        subst ea; subst eb
        exact (all c s' t' u1 u2).2 y1
      · exact y2 s0 t0 h0 h0' (by omega) c s' t' u1 u2
/-- a pair that isn't one of states -/
theorem da_rp_no {p : Nat} (hk : da_ok N L B) (h : da_rp N L B r p Tm fl near life) (hno : ¬ (da_st N L (p / 64) ∧ da_st N L (p % 64))) : da_rp N L B r (p + 1) Tm fl near life := by
  have ne : ∀ s0 t0, da_st N L s0 → da_st N L t0 → s0 * 64 + t0 ≠ p := by
    intro s0 t0 a b e
    have := da_st_lt hk b
    have e1 : p / 64 = s0 := by omega
    have e2 : p % 64 = t0 := by omega
    exact hno ⟨by rw [e1]; exact a, by rw [e2]; exact b⟩
  refine ⟨fun s0 t0 h0 h0' => ⟨(h.1 s0 t0 h0 h0').1, fun z => (h.1 s0 t0 h0 h0').2 (by have := ne s0 t0 h0 h0'; omega)⟩, ?_⟩
  rcases h.2 with y | ⟨y1, y2⟩
  · exact Or.inl y
  · exact Or.inr ⟨y1, fun s0 t0 h0 h0' z => y2 s0 t0 h0 h0' (by have := ne s0 t0 h0 h0'; omega)⟩
end
/-- what the rounds leave -/
def da_nf (N : Nat) (L : Nat → Nat) (B : Nat → Nat → Nat) (near life : Nat → Int32) : Prop := ∀ s t, da_st N L s → da_st N L t → da_no (da_t1 N L B) 240 s t near ∧ da_lo (da_t1 N L B) 240 (2 ^ 30) s t life
theorem da_nf_fx {N : Nat} {L : Nat → Nat} {B : Nat → Nat → Nat} {r p Tm : Nat} {near life : Nat → Int32} (hk : da_ok N L B) (hT : Tm ≤ 2 ^ 30) (h : da_ri N L B r p Tm near life) (hf : da_fz N L B 4096 near life) : da_nf N L B near life := by
  have lt : ∀ s t, da_st N L s → da_st N L t → s * 64 + t < 4096 := by
    intro s t a b
    have := da_st_lt hk a
    have := da_st_lt hk b
    omega
  have kn : ∀ m s t, da_st N L s → da_st N L t → da_nr (da_t1 N L B) m s t → da_nv near (s * 64 + t) ≤ m := by
    intro m
    induction m with
    | zero => intro s t a b w; exact (h s t a b).1.1.2.2.2 0 (Nat.zero_le _) w
    | succ m ih =>
      rintro s t a b ⟨c, s', t', u1, u2, u3⟩
      have hs' := da_t1_st hk u1
      have ht' := da_t1_st hk u2
      have i1 := ih s' t' hs' ht' u3
      have f1 := (hf s t a b (lt s t a b) c s' t' u1 u2).1
      obtain ⟨n1, n2, _⟩ := (h s t a b).1.1
      obtain ⟨q1, q2, _⟩ := (h s' t' hs' ht').1.1
      rw [n1, q1, nI_1] at f1
      have := (nI_leI (by omega) (by omega)).mp f1
      omega
  have kl : ∀ m s t, da_st N L s → da_st N L t → da_lv (da_t1 N L B) m s t → m ≤ da_nv life (s * 64 + t) ∨ 240 ≤ da_nv life (s * 64 + t) := by
    intro m
    induction m with
    | zero => intro s t a b w; exact Or.inl (Nat.zero_le _)
    | succ m ih =>
      rintro s t a b ⟨c, s', t', u1, u2, u3⟩
      have hs' := da_t1_st hk u1
      have ht' := da_t1_st hk u2
      have i1 := ih s' t' hs' ht' u3
      have f1 := (hf s t a b (lt s t a b) c s' t' u1 u2).2
      obtain ⟨n1, n2, _⟩ := (h s t a b).1.2
      obtain ⟨q1, q2, _⟩ := (h s' t' hs' ht').1.2
      rcases f1 with y | y
      · rw [n1, q1] at y
        have := (nI_ltI (by omega) (by omega)).mp y
        omega
      · rw [n1] at y
        exact Or.inr ((nI_leI (a := 240) (by omega) (by omega)).mp y)
  intro s t a b
  obtain ⟨⟨n1, n2, n3, _⟩, l1, l2, l3, _⟩ := (h s t a b).1
  refine ⟨⟨n1, n2, n3, fun m _ w => kn m s t a b w⟩, l1, by omega, l3, fun m _ hm w => ?_⟩
  have := kl m s t a b w
  omega
section
variable {yf_maxWords yf_maxLength yf_capacity yf_n yf_verdict yf_witLen yf_textLen yf_pos yf_finished yf_settledN yf_opens : Int32} {ya_word ya_wlen ya_delays ya_wit ya_text ya_near ya_life ya_set ya_next ya_ways ya_msg ya_settled : Nat → Int32}
theorem yw_rl86 {N r s t ck s1 : Nat} {post : Int32 → SY → Prop} {J4 J45 : Int32 → Int32 → (Nat → Int32) → (Nat → Int32) → (Nat → Int32) → (Nat → Int32) → (Nat → Int32) → (Nat → Int32) → (Nat → Int32) → (Nat → Int32) → (Nat → Int32) → (Nat → Int32) → (Nat → Int32) → (Nat → Int32) → Prop} (hc : da_cok N ya_word ya_wlen) (hr : r < 240) (hs : da_st N (da_L ya_wlen) s) (ht : da_st N (da_L ya_wlen) t) (hck : ck < 2 * N) (t1 : da_tr N (da_L ya_wlen) (da_B ya_word ya_wlen) s (ck / 2) (ck % 2) s1)
    (hJ : ∀ fl near life Tm, Tm ≤ ((r * 4096 + (s * 64 + t)) * 16 + ck) * 8 + 8 → da_rx N (da_L ya_wlen) (da_B ya_word ya_wlen) r s t (ck + 1) 0 Tm fl near life → J45 fl (nI (ck + 1)) ya_word ya_wlen ya_delays ya_wit ya_text near life ya_set ya_next ya_ways ya_msg ya_settled) :
    ∀ f k2 fl near life Tm, k2 ≤ N → N - k2 < f → Tm ≤ ((r * 4096 + (s * 64 + t)) * 16 + ck) * 8 + k2 → da_rx N (da_L ya_wlen) (da_B ya_word ya_wlen) r s t ck k2 Tm fl near life →
      wY_relax_86 post J4 J45 (nI (s * 64 + t)) (nI s) (nI t) (nI ck) (nI (ck % 2)) (nI s1) yf_maxWords yf_maxLength yf_capacity (nI N) yf_verdict yf_witLen yf_textLen yf_pos yf_finished yf_settledN yf_opens f fl (nI k2) ya_word ya_wlen ya_delays ya_wit ya_text near life ya_set ya_next ya_ways ya_msg ya_settled := by
  have hok := da_cok_ok hc
  have hN := hc.1
  have l1 := da_st_lt hok hs
  have l2 := da_st_lt hok ht
  have hs1 := da_t1_st hok ⟨_, t1⟩
  have l3 := da_st_lt hok hs1
  intro f
  induction f with
  | zero => intro k2 fl near life Tm _ h0; omega
  | succ f ih =>
    intro k2 fl near life Tm hk2 hf hTm hx
    refine pk_le N k2 (fun q => ?_) (fun q => ?_)
    · have : k2 = N := by omega
      subst this
      exact nm_r (nI_1 ck) (hJ fl near life Tm (by omega) (da_rx_ck hx))
    · refine yw_step hc l2 q (by omega) (fun r0 hr0 => ?_)
      rcases hr0 with ⟨r1, r2⟩ | ⟨t', r1, r2, r3⟩
      · rw [r1]
        exact br_f (by decide) (nm_r (nI_1 k2) (ih (k2 + 1) fl near life (Tm + 1) (by omega) (by omega) (by omega) (da_rx_no hx rfl hok r2)))
      · rw [r2]
        have e64 : nI s1 * 64 + nI t' = nI (s1 * 64 + t') := by rw [show (64 : Int32) = nI 64 from rfl, pk_mul, nI_add]
        have cq : (nI (s1 * 64 + t')).toNatClampNeg = s1 * 64 + t' := nI_clamp (by omega)
        have cp : (nI (s * 64 + t)).toNatClampNeg = s * 64 + t := nI_clamp (by omega)
        have iq : vp_in (nI (s1 * 64 + t')) 4096 := vp_in_nI (by omega) (by omega)
        have ip : vp_in (nI (s * 64 + t)) 4096 := vp_in_nI (by omega) (by omega)
        refine br_t (nI_pos' (by omega)) (nm_r e64 ⟨iq, ip, ?_⟩)
        rw [cq, cp]
        have tail : ∀ fl near, da_rx N (da_L ya_wlen) (da_B ya_word ya_wlen) r s t ck k2 Tm fl near life → near (s * 64 + t) ≤ near (s1 * 64 + t') + 1 →
            wY_relax_160 post J4 J45 (wY_relax_86 post J4 J45 (nI (s * 64 + t)) (nI s) (nI t) (nI ck) (nI (ck % 2)) (nI s1) yf_maxWords yf_maxLength yf_capacity (nI N) yf_verdict yf_witLen yf_textLen yf_pos yf_finished yf_settledN yf_opens f) fl (nI (s * 64 + t)) (nI s) (nI t) (nI ck) (nI (ck % 2)) (nI s1) (nI k2) (nI (s1 * 64 + t')) yf_maxWords yf_maxLength yf_capacity (nI N) yf_verdict yf_witLen yf_textLen yf_pos yf_finished yf_settledN yf_opens ya_word ya_wlen ya_delays ya_wit ya_text near life ya_set ya_next ya_ways ya_msg ya_settled := by
          intro fl near hx hn
          unfold wY_relax_160
          rw [cq, cp]
          refine ⟨ip, iq, br_c (fun z => nm_r (nI_1 k2) (ih (k2 + 1) fl near life (Tm + 1) (by omega) (by omega) (by omega) (da_rx_k hok hs ht (by omega) (by omega) t1 r3 hx hn (Or.inl z)))) (fun z => ⟨ip, br_c (fun z2 => nm_r (nI_1 k2) (ih (k2 + 1) fl near life (Tm + 1) (by omega) (by omega) (by omega) (da_rx_k hok hs ht (by omega) (by omega) t1 r3 hx hn (Or.inr z2)))) (fun z2 => ⟨iq, ip, nm_e (nm_r (nI_1 k2) ?_)⟩)⟩)⟩
          exact ih (k2 + 1) 1 near _ (Tm + 1) (by omega) (by omega) (by omega) (da_rx_l hok hs ht (by omega) (by omega) t1 r3 hx hn z z2)
        refine br_c (fun z => tail fl near hx z) (fun z => ⟨iq, ip, nm_e ?_⟩)
        have := da_rx_n hok hs ht t1 r3 hx z
        exact tail 1 _ this.1 this.2
theorem yw_rl45 {N r s t : Nat} {post : Int32 → SY → Prop} {J4 : Int32 → Int32 → (Nat → Int32) → (Nat → Int32) → (Nat → Int32) → (Nat → Int32) → (Nat → Int32) → (Nat → Int32) → (Nat → Int32) → (Nat → Int32) → (Nat → Int32) → (Nat → Int32) → (Nat → Int32) → (Nat → Int32) → Prop} (hc : da_cok N ya_word ya_wlen) (hr : r < 240) (hs : da_st N (da_L ya_wlen) s) (ht : da_st N (da_L ya_wlen) t)
    (hJ : ∀ fl near life Tm, Tm ≤ (r * 4096 + (s * 64 + t) + 1) * 128 → da_rp N (da_L ya_wlen) (da_B ya_word ya_wlen) r (s * 64 + t + 1) Tm fl near life → J4 fl (nI (s * 64 + t + 1)) ya_word ya_wlen ya_delays ya_wit ya_text near life ya_set ya_next ya_ways ya_msg ya_settled) :
    ∀ f ck fl near life Tm, ck ≤ 2 * N → 2 * N - ck < f → Tm ≤ ((r * 4096 + (s * 64 + t)) * 16 + ck) * 8 → da_rx N (da_L ya_wlen) (da_B ya_word ya_wlen) r s t ck 0 Tm fl near life →
      wY_relax_45 post J4 (nI (s * 64 + t)) (nI s) (nI t) yf_maxWords yf_maxLength yf_capacity (nI N) yf_verdict yf_witLen yf_textLen yf_pos yf_finished yf_settledN yf_opens f fl (nI ck) ya_word ya_wlen ya_delays ya_wit ya_text near life ya_set ya_next ya_ways ya_msg ya_settled := by
  have hok := da_cok_ok hc
  have hN := hc.1
  have l1 := da_st_lt hok hs
  have l2 := da_st_lt hok ht
  intro f
  induction f with
  | zero => intro ck fl near life Tm _ h0; omega
  | succ f ih =>
    intro ck fl near life Tm hck hf hTm hx
    have e2N : 2 * nI N = nI (2 * N) := pk_mul 2 N
    refine pk_le (2 * N) ck (fun q => ?_) (fun q => ?_) e2N rfl
    · have : ck = 2 * N := by omega
      subst this
      exact nm_r (nI_1 _) (hJ fl near life Tm (by omega) (da_rx_end hok hs ht hx))
    · have e1 : nI ck - nI ck / 2 * 2 = nI (ck % 2) := pk_rem (d := 2) (by omega) (by omega) (by omega)
      have e2 : nI ck / 2 = nI (ck / 2) := pk_div (d := 2) (by omega) (by omega) (by omega)
      refine ⟨by decide, nm_r e1 ⟨by decide, ?_⟩⟩
      rw [e2]
      refine yw_step hc l1 (by omega) (by omega) (fun r0 hr0 => ?_)
      rcases hr0 with ⟨r1, r2⟩ | ⟨s', r1, r2, r3⟩
      · rw [r1]
        exact br_f (by decide) (nm_r (nI_1 ck) (ih (ck + 1) fl near life Tm (by omega) (by omega) (by omega) (da_rx_nk hok hx r2)))
      · rw [r2]
        refine br_t (nI_pos' (by omega)) ⟨N + 1, ?_⟩
        refine yw_rl86 hc hr hs ht (by omega) r3 (fun fl near life Tm h1 h2 => ?_) (N + 1) 0 fl near life Tm (by omega) (by omega) (by omega) hx
        exact ih (ck + 1) fl near life Tm (by omega) (by omega) (by omega) h2
theorem yw_rl4 {N r : Nat} {post : Int32 → SY → Prop} (hc : da_cok N ya_word ya_wlen) (hr : r < 240)
    (h : ∀ fl near life Tm, Tm ≤ (r + 1) * 524288 → da_rp N (da_L ya_wlen) (da_B ya_word ya_wlen) r 4096 Tm fl near life → post fl (yf_maxWords, yf_maxLength, yf_capacity, nI N, yf_verdict, yf_witLen, yf_textLen, yf_pos, yf_finished, yf_settledN, yf_opens, ya_word, ya_wlen, ya_delays, ya_wit, ya_text, near, life, ya_set, ya_next, ya_ways, ya_msg, ya_settled)) :
    ∀ f p fl near life Tm, p ≤ 4096 → 4096 - p < f → Tm ≤ (r * 4096 + p) * 128 → da_rp N (da_L ya_wlen) (da_B ya_word ya_wlen) r p Tm fl near life →
      wY_relax_4 post yf_maxWords yf_maxLength yf_capacity (nI N) yf_verdict yf_witLen yf_textLen yf_pos yf_finished yf_settledN yf_opens f fl (nI p) ya_word ya_wlen ya_delays ya_wit ya_text near life ya_set ya_next ya_ways ya_msg ya_settled := by
  have hok := da_cok_ok hc
  intro f
  induction f with
  | zero => intro p fl near life Tm _ h0; omega
  | succ f ih =>
    intro p fl near life Tm hp hf hTm hx
    refine pk_le 4096 p (fun q => ?_) (fun q => ?_)
    · have : p = 4096 := by omega
      subst this
      refine ⟨?_, h fl near life Tm (by omega) hx⟩
      rcases hx.2 with y | ⟨y, _⟩
      · rw [y]; rfl
      · rw [y]; rfl
    · have e1 : nI p - nI p / 64 * 64 = nI (p % 64) := pk_rem (d := 64) (by omega) (by omega) (by omega)
      have e2 : nI p / 64 = nI (p / 64) := pk_div (d := 64) (by omega) (by omega) (by omega)
      refine ⟨by decide, nm_r e2 ⟨by decide, nm_r e1 ?_⟩⟩
      refine yw_isState hc (by omega) (fun w1 => ?_) (fun w1 => ?_)
      · refine br_f da_10 (yw_isState hc (by omega) (fun w2 => ?_) (fun w2 => ?_))
        · refine br_f da_10 ⟨2 * N + 1, ?_⟩
          have ep : p = p / 64 * 64 + p % 64 := by omega
          clear e1 e2
          generalize p / 64 = s at *
          generalize p % 64 = t at *
          subst ep
          refine yw_rl45 hc hr w1 w2 (fun fl near life Tm h1 h2 => ?_) (2 * N + 1) 0 fl near life Tm (by omega) (by omega) (by omega) ⟨hx, fun k1 k c s' t' _ _ z => by omega⟩
          exact ih (s * 64 + t + 1) fl near life Tm (by omega) (by omega) (by omega) h2
        · exact br_t rfl (nm_r (nI_1 p) (ih (p + 1) fl near life Tm (by omega) (by omega) (by omega) (da_rp_no hok hx (fun w => w2 w.2))))
      · exact br_t rfl (nm_r (nI_1 p) (ih (p + 1) fl near life Tm (by omega) (by omega) (by omega) (da_rp_no hok hx (fun w => w1 w.1))))
theorem yw_relax {N r Tm : Nat} {post : Int32 → SY → Prop} (hc : da_cok N ya_word ya_wlen) (hr : r < 240) (hT : Tm ≤ r * 524288) (hi : da_ri N (da_L ya_wlen) (da_B ya_word ya_wlen) r 0 Tm ya_near ya_life)
    (h : ∀ fl near life Tm, Tm ≤ (r + 1) * 524288 → da_ri N (da_L ya_wlen) (da_B ya_word ya_wlen) (r + 1) 0 Tm near life → (fl = 1 ∨ (fl = 0 ∧ da_nf N (da_L ya_wlen) (da_B ya_word ya_wlen) near life)) → post fl (yf_maxWords, yf_maxLength, yf_capacity, nI N, yf_verdict, yf_witLen, yf_textLen, yf_pos, yf_finished, yf_settledN, yf_opens, ya_word, ya_wlen, ya_delays, ya_wit, ya_text, near, life, ya_set, ya_next, ya_ways, ya_msg, ya_settled)) :
    wpY_relax post (yf_maxWords, yf_maxLength, yf_capacity, nI N, yf_verdict, yf_witLen, yf_textLen, yf_pos, yf_finished, yf_settledN, yf_opens, ya_word, ya_wlen, ya_delays, ya_wit, ya_text, ya_near, ya_life, ya_set, ya_next, ya_ways, ya_msg, ya_settled) := by
  have hok := da_cok_ok hc
  refine ⟨4097, yw_rl4 hc hr (fun fl near life Tm h1 h2 => h fl near life Tm h1 (fun s t hs ht => ⟨?_, fun z => by omega⟩) ?_) 4097 0 0 ya_near ya_life Tm (by omega) (by omega) (by omega) ⟨hi, Or.inr ⟨rfl, fun s t _ _ z => by omega⟩⟩⟩
  · have := da_st_lt hok hs
    have := da_st_lt hok ht
    exact (h2.1 s t hs ht).2 (by omega)
  · rcases h2.2 with y | ⟨y1, y2⟩
    · exact Or.inl y
    · exact Or.inr ⟨y1, da_nf_fx hok (by omega) h2.1 y2⟩
end
end
section
/-! the reference's delays -/
def da_is (P : Nat → Prop) (M : Nat) (a : Nat → Int32) : Prop := ∀ s, s < M → (a s = 1 ∧ P s) ∨ (a s = 0 ∧ ¬ P s)
def da_AY (N : Nat) (L : Nat → Nat) (B : Nat → Nat → Nat) (a m : Nat) : Prop := ∃ b s, b < N ∧ b ≠ a ∧ da_yb N L B a b (L a) s ∧ da_lv (da_t1 N L B) m 0 s
theorem da_is_c {P Q : Nat → Prop} {M : Nat} {a : Nat → Int32} (h : da_is P M a) (e : ∀ s, s < M → (P s ↔ Q s)) : da_is Q M a := by
  intro s hs
  rcases h s hs with ⟨x, y⟩ | ⟨x, y⟩
  · exact Or.inl ⟨x, (e s hs).mp y⟩
  · exact Or.inr ⟨x, fun z => y ((e s hs).mpr z)⟩
theorem da_is_set {P : Nat → Prop} {M q : Nat} {a : Nat → Int32} (h : da_is P M a) : da_is (fun s => P s ∨ s = q) M (upd a q 1) := by
  intro s hs
  by_cases e : s = q
  · subst e; exact Or.inl ⟨pk_us, Or.inr rfl⟩
  · rw [pk_un e]
    rcases h s hs with ⟨x, y⟩ | ⟨x, y⟩
    · exact Or.inl ⟨x, Or.inl y⟩
    · exact Or.inr ⟨x, fun z => z.elim y e⟩
section
variable {yf_maxWords yf_maxLength yf_capacity yf_n yf_verdict yf_witLen yf_textLen yf_pos yf_finished yf_settledN yf_opens : Int32} {ya_word ya_wlen ya_delays ya_wit ya_text ya_near ya_life ya_set ya_next ya_ways ya_msg ya_settled : Nat → Int32}
/-- the sweep over the states that were reached -/
theorem yw_do220 {N a b d0 : Nat} {S : Nat → Prop} {post : Int32 → SY → Prop} {J4 : Int32 → Int32 → (Nat → Int32) → (Nat → Int32) → (Nat → Int32) → (Nat → Int32) → (Nat → Int32) → (Nat → Int32) → (Nat → Int32) → (Nat → Int32) → (Nat → Int32) → (Nat → Int32) → (Nat → Int32) → (Nat → Int32) → Prop} (hk : da_ok N (da_L ya_wlen) (da_B ya_word ya_wlen)) (hN : 0 < N) (hnf : da_nf N (da_L ya_wlen) (da_B ya_word ya_wlen) ya_near ya_life) (hS : da_is S 64 ya_set) (hst : ∀ s, S s → da_st N (da_L ya_wlen) s) {Q : Nat → Prop}
    (h1 : (∃ s, S s ∧ ∀ m, da_lv (da_t1 N (da_L ya_wlen) (da_B ya_word ya_wlen)) m 0 s) → post 1000 (yf_maxWords, yf_maxLength, yf_capacity, nI N, yf_verdict, yf_witLen, yf_textLen, yf_pos, yf_finished, yf_settledN, yf_opens, ya_word, ya_wlen, ya_delays, ya_wit, ya_text, ya_near, ya_life, ya_set, ya_next, ya_ways, ya_msg, ya_settled))
    (hJ : ∀ d, d ≤ 240 → d0 ≤ d → (∀ s, S s → ¬ da_lv (da_t1 N (da_L ya_wlen) (da_B ya_word ya_wlen)) d 0 s) → (Q d ∨ ∃ s, S s ∧ 1 ≤ d ∧ da_lv (da_t1 N (da_L ya_wlen) (da_B ya_word ya_wlen)) (d - 1) 0 s) → J4 (nI d) (nI (b + 1)) ya_word ya_wlen ya_delays ya_wit ya_text ya_near ya_life ya_set ya_next ya_ways ya_msg ya_settled) :
    ∀ f i d, i ≤ 64 → 64 - i < f → d ≤ 240 → d0 ≤ d → (∀ s, s < i → S s → ¬ da_lv (da_t1 N (da_L ya_wlen) (da_B ya_word ya_wlen)) d 0 s) → (Q d ∨ ∃ s, S s ∧ 1 ≤ d ∧ da_lv (da_t1 N (da_L ya_wlen) (da_B ya_word ya_wlen)) (d - 1) 0 s) →
      wY_delayOf_220 post J4 (nI a) (nI b) yf_maxWords yf_maxLength yf_capacity (nI N) yf_verdict yf_witLen yf_textLen yf_pos yf_finished yf_settledN yf_opens ya_word ya_wlen ya_delays ya_wit ya_text ya_near ya_life ya_set ya_next ya_ways ya_msg ya_settled f (nI d) (nI i) := by
  intro f
  induction f with
  | zero => intro i d _ h0; omega
  | succ f ih =>
    intro i d hi hf hd hd0 h2 h3
    have ci : (nI i).toNatClampNeg = i := nI_clamp (by omega)
    refine pk_le 64 i (fun q => ?_) (fun q => ?_)
    · exact nm_r (nI_1 b) (hJ d hd hd0 (fun s hs => h2 s (by have := da_st_lt hk (hst s hs); omega) hs) h3)
    · rw [ci]
      have i1 : vp_in (nI i) 4096 := vp_in_nI (by omega) (by omega)
      refine ⟨i1, ?_⟩
      rcases hS i q with ⟨x, y⟩ | ⟨x, y⟩
      · rw [x]
        refine br_f da_10 ⟨i1, ?_⟩
        have hst' := hst i y
        obtain ⟨_, l1, l2, l3, l4⟩ := hnf 0 i (Or.inl rfl) hst'
        rw [Nat.zero_mul, Nat.zero_add] at l1 l2 l3 l4
        rw [l1, nI_1]
        refine pk_lt (da_nv ya_life i) 240 (fun z => ⟨i1, ?_⟩) (fun z => ?_)
        · have ex : ¬ da_lv (da_t1 N (da_L ya_wlen) (da_B ya_word ya_wlen)) (da_nv ya_life i + 1) 0 i := by
            intro w
            have := l4 _ (by omega) (by omega) w
            omega
          refine pk_le (da_nv ya_life i + 1) d (fun w => ?_) (fun w => ⟨i1, ?_⟩)
          · refine nm_r (nI_1 i) (ih (i + 1) d (by omega) (by omega) hd hd0 (fun s hs hss => ?_) h3)
            rcases Nat.lt_or_ge s i with v | v
            · exact h2 s v hss
            · have : s = i := by omega
              subst this
              exact fun u => ex (da_lv_dn _ _ _ _ w u)
          · refine nm_e (nm_r (nI_1 i) (ih (i + 1) (da_nv ya_life i + 1) (by omega) (by omega) (by omega) (by omega) (fun s hs hss => ?_) (Or.inr ⟨i, y, by omega, l3⟩)))
            rcases Nat.lt_or_ge s i with v | v
            · exact fun u => h2 s v hss (da_lv_dn _ _ _ _ (by omega) u)
            · have : s = i := by omega
              subst this
              exact ex
        · exact h1 ⟨i, y, da_hb224 hk hN hst' (da_lv_dn _ _ _ _ (by omega) l3)⟩
      · rw [x]
        refine br_t rfl (nm_r (nI_1 i) (ih (i + 1) d (by omega) (by omega) hd hd0 (fun s hs hss => ?_) h3))
        rcases Nat.lt_or_ge s i with v | v
        · exact h2 s v hss
        · have : s = i := by omega
          subst this
          exact absurd hss y
theorem yw_do184 {N a b j d : Nat} {P : Nat → Prop} {post : Int32 → SY → Prop} {J4 : Int32 → Int32 → (Nat → Int32) → (Nat → Int32) → (Nat → Int32) → (Nat → Int32) → (Nat → Int32) → (Nat → Int32) → (Nat → Int32) → (Nat → Int32) → (Nat → Int32) → (Nat → Int32) → (Nat → Int32) → (Nat → Int32) → Prop} {J56 : Int32 → (Nat → Int32) → (Nat → Int32) → (Nat → Int32) → (Nat → Int32) → (Nat → Int32) → (Nat → Int32) → (Nat → Int32) → (Nat → Int32) → (Nat → Int32) → (Nat → Int32) → (Nat → Int32) → (Nat → Int32) → Prop} (hP : da_is P 64 ya_next)
    (hJ : ∀ set, da_is P 64 set → J56 (nI (j + 1)) ya_word ya_wlen ya_delays ya_wit ya_text ya_near ya_life set ya_next ya_ways ya_msg ya_settled) :
    ∀ f i set, i ≤ 64 → 64 - i < f → (∀ s, s < i → set s = ya_next s) → wY_delayOf_184 post J4 J56 (nI a) (nI d) (nI b) (nI j) yf_maxWords yf_maxLength yf_capacity (nI N) yf_verdict yf_witLen yf_textLen yf_pos yf_finished yf_settledN yf_opens f (nI i) ya_word ya_wlen ya_delays ya_wit ya_text ya_near ya_life set ya_next ya_ways ya_msg ya_settled := by
  intro f
  induction f with
  | zero => intro i set _ h0; omega
  | succ f ih =>
    intro i set hi hf hs
    have ci : (nI i).toNatClampNeg = i := nI_clamp (by omega)
    refine pk_le 64 i (fun q => ?_) (fun q => ?_)
    · refine nm_r (nI_1 j) (hJ set (fun s hs' => ?_))
      rw [hs s (by omega)]; exact hP s hs'
    · rw [ci]
      have i1 : vp_in (nI i) 4096 := vp_in_nI (by omega) (by omega)
      refine ⟨i1, i1, nm_e (nm_r (nI_1 i) (ih (i + 1) _ (by omega) (by omega) (fun s hs' => ?_)))⟩
      by_cases e : s = i
      · subst e; exact pk_us
      · rw [pk_un e]; exact hs s (by omega)
theorem yw_do113 {N a b j d c s : Nat} {P : Nat → Prop} {post : Int32 → SY → Prop} {J4 : Int32 → Int32 → (Nat → Int32) → (Nat → Int32) → (Nat → Int32) → (Nat → Int32) → (Nat → Int32) → (Nat → Int32) → (Nat → Int32) → (Nat → Int32) → (Nat → Int32) → (Nat → Int32) → (Nat → Int32) → (Nat → Int32) → Prop} {J56 J103 : Int32 → (Nat → Int32) → (Nat → Int32) → (Nat → Int32) → (Nat → Int32) → (Nat → Int32) → (Nat → Int32) → (Nat → Int32) → (Nat → Int32) → (Nat → Int32) → (Nat → Int32) → (Nat → Int32) → (Nat → Int32) → Prop} (hc : da_cok N ya_word ya_wlen) (hcc : c < 2) (hs : s < 64) (hb : b < 8) (hj : j < 8) (hset : (ya_set s = 1 ∧ P s) ∨ (ya_set s = 0 ∧ ¬ P s)) {Q : Nat → Prop}
    (hJ : ∀ next, da_is (fun s' => Q s' ∨ (P s ∧ ∃ k, k < N ∧ da_tr N (da_L ya_wlen) (da_B ya_word ya_wlen) s k c s' ∧ (0 < j ∨ k = b))) 64 next → J103 (nI (s + 1)) ya_word ya_wlen ya_delays ya_wit ya_text ya_near ya_life ya_set next ya_ways ya_msg ya_settled) :
    ∀ f k next, k ≤ N → N - k < f → da_is (fun s' => Q s' ∨ (P s ∧ ∃ k', k' < k ∧ da_tr N (da_L ya_wlen) (da_B ya_word ya_wlen) s k' c s' ∧ (0 < j ∨ k' = b))) 64 next →
      wY_delayOf_113 post J4 J56 J103 (nI a) (nI d) (nI b) (nI j) (nI c) (nI s) yf_maxWords yf_maxLength yf_capacity (nI N) yf_verdict yf_witLen yf_textLen yf_pos yf_finished yf_settledN yf_opens f (nI k) ya_word ya_wlen ya_delays ya_wit ya_text ya_near ya_life ya_set next ya_ways ya_msg ya_settled := by
  have hN := hc.1
  intro f
  induction f with
  | zero => intro k next _ h0; omega
  | succ f ih =>
    intro k next hk hf hn
    have cs : (nI s).toNatClampNeg = s := nI_clamp (by omega)
    refine pk_le N k (fun q => ?_) (fun q => ?_)
    · have : k = N := by omega
      subst this
      exact nm_r (nI_1 s) (hJ next hn)
    · have skip : (∀ s', P s → da_tr N (da_L ya_wlen) (da_B ya_word ya_wlen) s k c s' → ¬ (0 < j ∨ k = b)) → wY_delayOf_113 post J4 J56 J103 (nI a) (nI d) (nI b) (nI j) (nI c) (nI s) yf_maxWords yf_maxLength yf_capacity (nI N) yf_verdict yf_witLen yf_textLen yf_pos yf_finished yf_settledN yf_opens f (nI (k + 1)) ya_word ya_wlen ya_delays ya_wit ya_text ya_near ya_life ya_set next ya_ways ya_msg ya_settled := by
        intro hno
        refine ih (k + 1) next (by omega) (by omega) (da_is_c hn (fun s' _ => ?_))
        constructor
        · rintro (w | ⟨w, k', w1, w2⟩)
          · exact Or.inl w
          · exact Or.inr ⟨w, k', by omega, w2⟩
        · rintro (w | ⟨w, k', w1, w2, w3⟩)
          · exact Or.inl w
          · rcases Nat.lt_or_ge k' k with v | v
            · exact Or.inr ⟨w, k', v, w2, w3⟩
            · have : k' = k := by omega
              subst this
              exact absurd w3 (hno s' w w2)
      refine yw_step hc hs q hcc (fun r hr => ?_)
      rw [cs]
      have i1 : vp_in (nI s) 4096 := vp_in_nI (by omega) (by omega)
      refine ⟨i1, ?_⟩
      rcases hset with ⟨x, y⟩ | ⟨x, y⟩
      · rw [x]
        refine br_t rfl ?_
        rcases hr with ⟨r1, r2⟩ | ⟨s', r1, r2, r3⟩
        · rw [r1]
          exact br_t da_neg1 (nm_r (nI_1 k) (skip (fun s' _ w => absurd w (r2 s'))))
        · rw [r2]
          have cr : (nI s').toNatClampNeg = s' := nI_clamp (by omega)
          have ir : vp_in (nI s') 4096 := vp_in_nI (by omega) (by omega)
          have put : (0 < j ∨ k = b) → wY_delayOf_113 post J4 J56 J103 (nI a) (nI d) (nI b) (nI j) (nI c) (nI s) yf_maxWords yf_maxLength yf_capacity (nI N) yf_verdict yf_witLen yf_textLen yf_pos yf_finished yf_settledN yf_opens f (nI (k + 1)) ya_word ya_wlen ya_delays ya_wit ya_text ya_near ya_life ya_set (upd next s' 1) ya_ways ya_msg ya_settled := by
            intro hjb
            refine ih (k + 1) _ (by omega) (by omega) (da_is_c (da_is_set hn) (fun x _ => ?_))
            constructor
            · rintro ((w | ⟨w, k', w1, w2⟩) | w)
              · exact Or.inl w
              · exact Or.inr ⟨w, k', by omega, w2⟩
              · subst w; exact Or.inr ⟨y, k, by omega, r3, hjb⟩
            · rintro (w | ⟨w, k', w1, w2, w3⟩)
              · exact Or.inl (Or.inl w)
              · rcases Nat.lt_or_ge k' k with v | v
                · exact Or.inl (Or.inr ⟨w, k', v, w2, w3⟩)
                · have : k' = k := by omega
                  subst this
                  exact Or.inr (da_tr_u w2 r3)
          refine br_f (nI_pos (by omega)) ?_
          rw [cr]
          refine pk_lt 0 j (fun w => ⟨ir, nm_e (nm_r (nI_1 k) (put (Or.inl w)))⟩) (fun w => ?_)
          refine pk_eq k b (fun w2 => ⟨ir, nm_e (nm_r (nI_1 k) (put (Or.inr w2)))⟩) (fun w2 => nm_r (nI_1 k) (skip (fun s' _ _ z => by omega)))
      · rw [x]
        exact br_f da_01 (nm_r (nI_1 k) (skip (fun s' w _ => absurd w y)))
theorem yw_do103 {N a b j d c : Nat} {P : Nat → Prop} {post : Int32 → SY → Prop} {J4 : Int32 → Int32 → (Nat → Int32) → (Nat → Int32) → (Nat → Int32) → (Nat → Int32) → (Nat → Int32) → (Nat → Int32) → (Nat → Int32) → (Nat → Int32) → (Nat → Int32) → (Nat → Int32) → (Nat → Int32) → (Nat → Int32) → Prop} {J56 : Int32 → (Nat → Int32) → (Nat → Int32) → (Nat → Int32) → (Nat → Int32) → (Nat → Int32) → (Nat → Int32) → (Nat → Int32) → (Nat → Int32) → (Nat → Int32) → (Nat → Int32) → (Nat → Int32) → (Nat → Int32) → Prop} (hc : da_cok N ya_word ya_wlen) (hcc : c < 2) (hb : b < 8) (hj : j < 8) (hset : da_is P 64 ya_set)
    (hJ : ∀ set next, da_is (fun s' => ∃ s, s < 64 ∧ P s ∧ ∃ k, k < N ∧ da_tr N (da_L ya_wlen) (da_B ya_word ya_wlen) s k c s' ∧ (0 < j ∨ k = b)) 64 set → J56 (nI (j + 1)) ya_word ya_wlen ya_delays ya_wit ya_text ya_near ya_life set next ya_ways ya_msg ya_settled) :
    ∀ f i next, i ≤ 64 → 64 - i < f → da_is (fun s' => ∃ s, s < i ∧ P s ∧ ∃ k, k < N ∧ da_tr N (da_L ya_wlen) (da_B ya_word ya_wlen) s k c s' ∧ (0 < j ∨ k = b)) 64 next →
      wY_delayOf_103 post J4 J56 (nI a) (nI d) (nI b) (nI j) (nI c) yf_maxWords yf_maxLength yf_capacity (nI N) yf_verdict yf_witLen yf_textLen yf_pos yf_finished yf_settledN yf_opens f (nI i) ya_word ya_wlen ya_delays ya_wit ya_text ya_near ya_life ya_set next ya_ways ya_msg ya_settled := by
  have hN := hc.1
  intro f
  induction f with
  | zero => intro i next _ h0; omega
  | succ f ih =>
    intro i next hi hf hn
    refine pk_le 64 i (fun q => ?_) (fun q => ?_)
    · have : i = 64 := by omega
      subst this
      exact ⟨65, yw_do184 hn (fun set hs => hJ set next hs) 65 0 ya_set (by omega) (by omega) (fun s hs => by omega)⟩
    · refine ⟨N + 1, yw_do113 hc hcc q hb hj (hset i q) (Q := fun s' => ∃ s, s < i ∧ P s ∧ ∃ k, k < N ∧ da_tr N (da_L ya_wlen) (da_B ya_word ya_wlen) s k c s' ∧ (0 < j ∨ k = b)) (fun next' hn' => ?_) (N + 1) 0 next (by omega) (by omega) (da_is_c hn (fun s' _ => ⟨fun w => Or.inl w, fun w => ?_⟩))⟩
      · refine ih (i + 1) next' (by omega) (by omega) (da_is_c hn' (fun s' _ => ?_))
        constructor
        · rintro (⟨s, w1, w2⟩ | ⟨w1, w2⟩)
          · exact ⟨s, by omega, w2⟩
          · exact ⟨i, by omega, w1, w2⟩
        · rintro ⟨s, w1, w2, w3⟩
          rcases Nat.lt_or_ge s i with v | v
          · exact Or.inl ⟨s, v, w2, w3⟩
          · have : s = i := by omega
            subst this
            exact Or.inr ⟨w2, w3⟩
      · rcases w with w | ⟨_, k', w, _⟩
        · exact w
        · omega
theorem yw_do79 {N a b j d c : Nat} {P : Nat → Prop} {post : Int32 → SY → Prop} {J4 : Int32 → Int32 → (Nat → Int32) → (Nat → Int32) → (Nat → Int32) → (Nat → Int32) → (Nat → Int32) → (Nat → Int32) → (Nat → Int32) → (Nat → Int32) → (Nat → Int32) → (Nat → Int32) → (Nat → Int32) → (Nat → Int32) → Prop} {J56 : Int32 → (Nat → Int32) → (Nat → Int32) → (Nat → Int32) → (Nat → Int32) → (Nat → Int32) → (Nat → Int32) → (Nat → Int32) → (Nat → Int32) → (Nat → Int32) → (Nat → Int32) → (Nat → Int32) → (Nat → Int32) → Prop} (hc : da_cok N ya_word ya_wlen) (hcc : c < 2) (hb : b < 8) (hj : j < 8) (hset : da_is P 64 ya_set)
    (hJ : ∀ set next, da_is (fun s' => ∃ s, s < 64 ∧ P s ∧ ∃ k, k < N ∧ da_tr N (da_L ya_wlen) (da_B ya_word ya_wlen) s k c s' ∧ (0 < j ∨ k = b)) 64 set → J56 (nI (j + 1)) ya_word ya_wlen ya_delays ya_wit ya_text ya_near ya_life set next ya_ways ya_msg ya_settled) :
    ∀ f i next, i ≤ 64 → 64 - i < f → (∀ s, s < i → next s = 0) →
      wY_delayOf_79 post J4 J56 (nI a) (nI d) (nI b) (nI j) (nI c) yf_maxWords yf_maxLength yf_capacity (nI N) yf_verdict yf_witLen yf_textLen yf_pos yf_finished yf_settledN yf_opens f (nI i) ya_word ya_wlen ya_delays ya_wit ya_text ya_near ya_life ya_set next ya_ways ya_msg ya_settled := by
  intro f
  induction f with
  | zero => intro i next _ h0; omega
  | succ f ih =>
    intro i next hi hf hn
    have ci : (nI i).toNatClampNeg = i := nI_clamp (by omega)
    refine pk_le 64 i (fun q => ?_) (fun q => ?_)
    · exact ⟨65, yw_do103 hc hcc hb hj hset hJ 65 0 next (by omega) (by omega) (fun s hs => Or.inr ⟨hn s (by omega), fun ⟨x, w, _⟩ => by omega⟩)⟩
    · rw [ci]
      refine ⟨vp_in_nI (by omega) (by omega), nm_e (nm_r (nI_1 i) (ih (i + 1) _ (by omega) (by omega) (fun s hs => ?_)))⟩
      by_cases e : s = i
      · subst e; exact pk_us
      · rw [pk_un e]; exact hn s (by omega)
theorem da_yb_s {N : Nat} {L : Nat → Nat} {B : Nat → Nat → Nat} (hk : da_ok N L B) {a b j : Nat} (hb : b < N) (s' : Nat) : (∃ s, s < 64 ∧ da_yb N L B a b j s ∧ ∃ k, k < N ∧ da_tr N L B s k (B a j) s' ∧ (0 < j ∨ k = b)) ↔ da_yb N L B a b (j + 1) s' := by
  cases j with
  | zero =>
    constructor
    · rintro ⟨s, _, w1, k, _, w2, w3⟩
      have e : s = 0 := w1
      subst e
      rcases w3 with w3 | w3
      · omega
      · subst w3; exact w2
    · intro w
      exact ⟨0, by omega, rfl, b, hb, w, Or.inr rfl⟩
  | succ j =>
    constructor
    · rintro ⟨s, _, w1, k, _, w2, w3⟩
      exact ⟨s, w1, k, w2⟩
    · rintro ⟨s, w1, k, w2⟩
      exact ⟨s, da_st_lt hk (da_yb_st hk _ _ w1), w1, k, w2.1, w2, Or.inl (by omega)⟩
theorem yw_do56 {N a b d : Nat} {post : Int32 → SY → Prop} {J4 : Int32 → Int32 → (Nat → Int32) → (Nat → Int32) → (Nat → Int32) → (Nat → Int32) → (Nat → Int32) → (Nat → Int32) → (Nat → Int32) → (Nat → Int32) → (Nat → Int32) → (Nat → Int32) → (Nat → Int32) → (Nat → Int32) → Prop} {Q : Nat → Prop} (hc : da_cok N ya_word ya_wlen) (ha : a < N) (hb : b < N) (hnf : da_nf N (da_L ya_wlen) (da_B ya_word ya_wlen) ya_near ya_life) (hd : d ≤ 240)
    (h1 : ∀ set next, (∃ s, da_yb N (da_L ya_wlen) (da_B ya_word ya_wlen) a b (da_L ya_wlen a) s ∧ ∀ m, da_lv (da_t1 N (da_L ya_wlen) (da_B ya_word ya_wlen)) m 0 s) → post 1000 (yf_maxWords, yf_maxLength, yf_capacity, nI N, yf_verdict, yf_witLen, yf_textLen, yf_pos, yf_finished, yf_settledN, yf_opens, ya_word, ya_wlen, ya_delays, ya_wit, ya_text, ya_near, ya_life, set, next, ya_ways, ya_msg, ya_settled))
    (hJ : ∀ d' set next, d' ≤ 240 → d ≤ d' → (∀ s, da_yb N (da_L ya_wlen) (da_B ya_word ya_wlen) a b (da_L ya_wlen a) s → ¬ da_lv (da_t1 N (da_L ya_wlen) (da_B ya_word ya_wlen)) d' 0 s) → (d' = d ∨ ∃ s, da_yb N (da_L ya_wlen) (da_B ya_word ya_wlen) a b (da_L ya_wlen a) s ∧ 1 ≤ d' ∧ da_lv (da_t1 N (da_L ya_wlen) (da_B ya_word ya_wlen)) (d' - 1) 0 s) → J4 (nI d') (nI (b + 1)) ya_word ya_wlen ya_delays ya_wit ya_text ya_near ya_life set next ya_ways ya_msg ya_settled) :
    ∀ f j set next, j ≤ da_L ya_wlen a → da_L ya_wlen a - j < f → da_is (da_yb N (da_L ya_wlen) (da_B ya_word ya_wlen) a b j) 64 set →
      wY_delayOf_56 post J4 (nI a) (nI d) (nI b) yf_maxWords yf_maxLength yf_capacity (nI N) yf_verdict yf_witLen yf_textLen yf_pos yf_finished yf_settledN yf_opens f (nI j) ya_word ya_wlen ya_delays ya_wit ya_text ya_near ya_life set next ya_ways ya_msg ya_settled := by
  have hok := da_cok_ok hc
  have hN := hc.1
  obtain ⟨e2, l1, l2, _⟩ := da_cok_v hc ha
  intro f
  induction f with
  | zero => intro j set next _ h0; omega
  | succ f ih =>
    intro j set next hj hf hs
    have ca : (nI a).toNatClampNeg = a := nI_clamp (by omega)
    refine And.intro (vp_in_nI (by omega) (by omega)) ?_
    rw [ca, e2]
    refine pk_le (da_L ya_wlen a) j (fun q => ?_) (fun q => ?_)
    · have : j = da_L ya_wlen a := by omega
      subst this
      exact ⟨65, yw_do220 (a := a) (b := b) (d0 := d) hok (by omega) hnf hs (fun s w => da_yb_st hok _ _ w) (Q := fun x => x = d) (h1 set next) (fun d' w1 w2 w3 w4 => hJ d' set next w1 w2 w3 w4) 65 0 d (by omega) (by omega) hd (Nat.le_refl _) (fun s hs => by omega) (Or.inl rfl)⟩
    · refine yw_bitOf hc ha (by omega) (fun _ => ⟨65, ?_⟩) (fun z => absurd q z)
      refine yw_do79 hc (hok.2.2.1 a j) (by omega) (by omega) hs (fun set' next' hs' => ?_) 65 0 next (by omega) (by omega) (fun s hs => by omega)
      exact ih (j + 1) set' next' (by omega) (by omega) (da_is_c hs' (fun s' _ => da_yb_s hok hb s'))
theorem yw_do23 {N a b d : Nat} {post : Int32 → SY → Prop} {J4 : Int32 → Int32 → (Nat → Int32) → (Nat → Int32) → (Nat → Int32) → (Nat → Int32) → (Nat → Int32) → (Nat → Int32) → (Nat → Int32) → (Nat → Int32) → (Nat → Int32) → (Nat → Int32) → (Nat → Int32) → (Nat → Int32) → Prop} (hc : da_cok N ya_word ya_wlen) (ha : a < N) (hb : b < N) (hnf : da_nf N (da_L ya_wlen) (da_B ya_word ya_wlen) ya_near ya_life) (hd : d ≤ 240)
    (h1 : ∀ set next, (∃ s, da_yb N (da_L ya_wlen) (da_B ya_word ya_wlen) a b (da_L ya_wlen a) s ∧ ∀ m, da_lv (da_t1 N (da_L ya_wlen) (da_B ya_word ya_wlen)) m 0 s) → post 1000 (yf_maxWords, yf_maxLength, yf_capacity, nI N, yf_verdict, yf_witLen, yf_textLen, yf_pos, yf_finished, yf_settledN, yf_opens, ya_word, ya_wlen, ya_delays, ya_wit, ya_text, ya_near, ya_life, set, next, ya_ways, ya_msg, ya_settled))
    (hJ : ∀ d' set next, d' ≤ 240 → d ≤ d' → (∀ s, da_yb N (da_L ya_wlen) (da_B ya_word ya_wlen) a b (da_L ya_wlen a) s → ¬ da_lv (da_t1 N (da_L ya_wlen) (da_B ya_word ya_wlen)) d' 0 s) → (d' = d ∨ ∃ s, da_yb N (da_L ya_wlen) (da_B ya_word ya_wlen) a b (da_L ya_wlen a) s ∧ 1 ≤ d' ∧ da_lv (da_t1 N (da_L ya_wlen) (da_B ya_word ya_wlen)) (d' - 1) 0 s) → J4 (nI d') (nI (b + 1)) ya_word ya_wlen ya_delays ya_wit ya_text ya_near ya_life set next ya_ways ya_msg ya_settled) :
    ∀ f i set next, i ≤ 64 → 64 - i < f → da_is (fun s => s = 0) i set →
      wY_delayOf_23 post J4 (nI a) (nI d) (nI b) yf_maxWords yf_maxLength yf_capacity (nI N) yf_verdict yf_witLen yf_textLen yf_pos yf_finished yf_settledN yf_opens f (nI i) ya_word ya_wlen ya_delays ya_wit ya_text ya_near ya_life set next ya_ways ya_msg ya_settled := by
  intro f
  induction f with
  | zero => intro i set next _ h0; omega
  | succ f ih =>
    intro i set next hi hf hs
    have ci : (nI i).toNatClampNeg = i := nI_clamp (by omega)
    refine pk_le 64 i (fun q => ?_) (fun q => ?_)
    · have : i = 64 := by omega
      subst this
      exact ⟨da_L ya_wlen a + 1, yw_do56 (Q := fun _ => True) hc ha hb hnf hd h1 hJ (da_L ya_wlen a + 1) 0 set next (by omega) (by omega) hs⟩
    · rw [ci]
      have i1 : vp_in (nI i) 4096 := vp_in_nI (by omega) (by omega)
      refine pk_eq i 0 (fun z => ⟨i1, nm_e (nm_r (nI_1 i) (ih (i + 1) _ next (by omega) (by omega) (fun s hs' => ?_)))⟩) (fun z => ⟨i1, nm_e (nm_r (nI_1 i) (ih (i + 1) _ next (by omega) (by omega) (fun s hs' => ?_)))⟩)
      · by_cases e : s = i
        · subst e; exact Or.inl ⟨pk_us, z⟩
        · rw [pk_un e]; exact hs s (by omega)
      · by_cases e : s = i
        · subst e; exact Or.inr ⟨pk_us, z⟩
        · rw [pk_un e]; exact hs s (by omega)
theorem yw_do4 {N a : Nat} {post : Int32 → SY → Prop} (hc : da_cok N ya_word ya_wlen) (ha : a < N) (hnf : da_nf N (da_L ya_wlen) (da_B ya_word ya_wlen) ya_near ya_life)
    (h : ∀ d set next, d ≤ 1000 → da_dl (da_AY N (da_L ya_wlen) (da_B ya_word ya_wlen) a) d → post (nI d) (yf_maxWords, yf_maxLength, yf_capacity, nI N, yf_verdict, yf_witLen, yf_textLen, yf_pos, yf_finished, yf_settledN, yf_opens, ya_word, ya_wlen, ya_delays, ya_wit, ya_text, ya_near, ya_life, set, next, ya_ways, ya_msg, ya_settled)) :
    ∀ f b d set next, b ≤ N → N - b < f → d ≤ 240 → (∀ b' s, b' < b → b' ≠ a → da_yb N (da_L ya_wlen) (da_B ya_word ya_wlen) a b' (da_L ya_wlen a) s → ¬ da_lv (da_t1 N (da_L ya_wlen) (da_B ya_word ya_wlen)) d 0 s) → (d = 0 ∨ da_AY N (da_L ya_wlen) (da_B ya_word ya_wlen) a (d - 1)) →
      wY_delayOf_4 post (nI a) yf_maxWords yf_maxLength yf_capacity (nI N) yf_verdict yf_witLen yf_textLen yf_pos yf_finished yf_settledN yf_opens f (nI d) (nI b) ya_word ya_wlen ya_delays ya_wit ya_text ya_near ya_life set next ya_ways ya_msg ya_settled := by
  have hN := hc.1
  intro f
  induction f with
  | zero => intro b d set next _ h0; omega
  | succ f ih =>
    intro b d set next hb hf hd h1 h2
    refine pk_le N b (fun q => ?_) (fun q => ?_)
    · refine h d set next (by omega) (Or.inr ⟨?_, fun m hm => ?_⟩)
      · rintro ⟨b', s, w1, w2, w3, w4⟩
        exact h1 b' s (by omega) w2 w3 w4
      · rcases h2 with z | ⟨b', s, w1, w2, w3, w4⟩
        · omega
        · exact ⟨b', s, w1, w2, w3, da_lv_dn _ _ _ _ (by omega) w4⟩
    · refine pk_eq b a (fun z => nm_r (nI_1 b) (ih (b + 1) d set next (by omega) (by omega) hd (fun b' s w1 w2 => h1 b' s (by omega) w2) h2)) (fun z => ⟨65, ?_⟩)
      refine yw_do23 hc ha q hnf hd (fun set' next' w => ?_) (fun d' set' next' w1 w2 w3 w4 => ?_) 65 0 set next (by omega) (by omega) (fun s hs => by omega)
      · obtain ⟨s, w1, w2⟩ := w
        exact h 1000 set' next' (by omega) (Or.inl ⟨fun m => ⟨b, s, q, z, w1, w2 m⟩, rfl⟩)
      · refine ih (b + 1) d' set' next' (by omega) (by omega) w1 (fun b' s v1 v2 v3 v4 => ?_) ?_
        · rcases Nat.lt_or_ge b' b with v | v
          · exact h1 b' s v v2 v3 (da_lv_dn _ _ _ _ w2 v4)
          · have : b' = b := by omega
            subst this
            exact w3 s v3 v4
        · rcases w4 with w4 | ⟨s, v1, v2, v3⟩
          · rw [w4]; exact h2
          · exact Or.inr ⟨b, s, q, z, v1, v3⟩
theorem yw_delayOf {N a : Nat} {post : Int32 → SY → Prop} (hc : da_cok N ya_word ya_wlen) (ha : a < N) (hnf : da_nf N (da_L ya_wlen) (da_B ya_word ya_wlen) ya_near ya_life)
    (h : ∀ d set next, d ≤ 1000 → da_dl (da_AY N (da_L ya_wlen) (da_B ya_word ya_wlen) a) d → post (nI d) (yf_maxWords, yf_maxLength, yf_capacity, nI N, yf_verdict, yf_witLen, yf_textLen, yf_pos, yf_finished, yf_settledN, yf_opens, ya_word, ya_wlen, ya_delays, ya_wit, ya_text, ya_near, ya_life, set, next, ya_ways, ya_msg, ya_settled)) :
    wpY_delayOf post (yf_maxWords, yf_maxLength, yf_capacity, nI N, yf_verdict, yf_witLen, yf_textLen, yf_pos, yf_finished, yf_settledN, yf_opens, ya_word, ya_wlen, ya_delays, ya_wit, ya_text, ya_near, ya_life, ya_set, ya_next, ya_ways, ya_msg, ya_settled) (nI a) :=
  ⟨N + 1, yw_do4 hc ha hnf h (N + 1) 0 0 ya_set ya_next (by omega) (by omega) (by omega) (fun b' s w => by omega) (Or.inl rfl)⟩
end
end
section
/-! the reference's witness: its length, its bits -/
def da_sq (N : Nat) (L : Nat → Nat) (B : Nat → Nat → Nat) (z : Nat → Nat) : Nat → Nat → Nat → Prop
  | 0, s, t => s = 0 ∧ t = 0
  | i + 1, s, t => ∃ s0 t0 k1 k2, da_sq N L B z i s0 t0 ∧ da_tr N L B s0 k1 (z i) s ∧ da_tr N L B t0 k2 (z i) t ∧ (i ≠ 0 ∨ k1 ≠ k2)
section
variable {N : Nat} {L : Nat → Nat} {B : Nat → Nat → Nat} {z : Nat → Nat} {near life : Nat → Int32}
theorem da_sq_c {z' : Nat → Nat} : ∀ (i s t : Nat), (∀ j, j < i → z j = z' j) → da_sq N L B z i s t → da_sq N L B z' i s t
  | 0, _, _, _, h => h
  | i + 1, s, t, e, ⟨s0, t0, k1, k2, h1, h2, h3, h4⟩ => by
    have ei := e i (by omega)
    rw [ei] at h2 h3
    exact ⟨s0, t0, k1, k2, da_sq_c i s0 t0 (fun j hj => e j (by omega)) h1, h2, h3, h4⟩
theorem da_sq_st (hk : da_ok N L B) : ∀ (i s t : Nat), da_sq N L B z i s t → da_st N L s ∧ da_st N L t
  | 0, _, _, ⟨e1, e2⟩ => ⟨Or.inl e1, Or.inl e2⟩
  | _ + 1, _, _, ⟨_, _, k1, k2, _, h2, h3, _⟩ => ⟨da_t1_st hk ⟨k1, h2⟩, da_t1_st hk ⟨k2, h3⟩⟩
theorem da_sq_ay : ∀ (i s t : Nat) (bs : List Nat), da_sq N L B z (i + 1) s t → da_w (da_t1 N L B) bs s 0 → da_w (da_t1 N L B) bs t 0 → da_ay N L B (da_sg z 0 (i + 1) ++ bs)
  | 0, s, t, bs, ⟨s0, t0, k1, k2, ⟨e1, e2⟩, h2, h3, h4⟩, w1, w2 => by
    subst e1; subst e2
    exact ⟨z 0, bs, k1, k2, s, t, rfl, h4.resolve_left (fun w => w rfl), h2, h3, w1, w2⟩
  | i + 1, s, t, bs, ⟨s0, t0, k1, k2, h1, h2, h3, h4⟩, w1, w2 => by
    have := da_sq_ay i s0 t0 (z (i + 1) :: bs) h1 ⟨s, ⟨k1, h2⟩, w1⟩ ⟨t, ⟨k2, h3⟩, w2⟩
    rw [da_sg_snoc z 0 (i + 1), Nat.zero_add, List.append_assoc]
    exact this
theorem da_ay_sq {bs : List Nat} (h : da_ay N L B bs) : ∀ (i : Nat), 1 ≤ i → i ≤ bs.length → (∀ j, j < i → bs.getD j 0 = z j) → ∃ s t, da_sq N L B z i s t ∧ da_w (da_t1 N L B) (bs.drop i) s 0 ∧ da_w (da_t1 N L B) (bs.drop i) t 0 := by
  intro i
  induction i with
  | zero => intro h; omega
  | succ i ih =>
    intro _ hl he
    by_cases i0 : i = 0
    · subst i0
      obtain ⟨c, bs', k1, k2, s, t, e, hne, h1, h2, h3, h4⟩ := h
      subst e
      have e0 : c = z 0 := he 0 (by omega)
      rw [e0] at h1 h2
      exact ⟨s, t, ⟨0, 0, k1, k2, ⟨rfl, rfl⟩, h1, h2, Or.inr hne⟩, h3, h4⟩
    · obtain ⟨s, t, a1, a2, a3⟩ := ih (by omega) (by omega) (fun j hj => he j (by omega))
      rw [List.drop_eq_getElem_cons (show i < bs.length by omega)] at a2 a3
      have e0 : bs[i] = z i := by
        rw [← he i (by omega), List.getD_eq_getElem?_getD, List.getElem?_eq_getElem (show i < bs.length by omega)]; rfl
      obtain ⟨s1, ⟨k1, b1⟩, b2⟩ := a2
      obtain ⟨t1, ⟨k2, c1⟩, c2⟩ := a3
      rw [e0] at b1 c1
      exact ⟨s1, t1, ⟨s, t, k1, k2, a1, b1, c1, Or.inl i0⟩, b2, c2⟩
theorem da_sg_len (t : Nat → Nat) : ∀ n i, (da_sg t i n).length = n
  | 0, _ => rfl
  | n + 1, i => by show (da_sg t (i + 1) n).length + 1 = n + 1; rw [da_sg_len t n]
theorem da_sg_get (t : Nat → Nat) : ∀ n i j, j < n → (da_sg t i n).getD j 0 = t (i + j)
  | 0, _, _, h => by omega
  | n + 1, i, 0, _ => rfl
  | n + 1, i, j + 1, h => by
    show (da_sg t (i + 1) n).getD j 0 = t (i + (j + 1))
    rw [da_sg_get t n (i + 1) j (by omega), show i + 1 + j = i + (j + 1) by omega]
/-- on the way of a shortest string the distance is what is left -/
theorem da_near_eq (hk : da_ok N L B) (hnf : da_nf N L B near life) {wl i s t m : Nat} (hwl : wl ≤ 240) (hmin : ∀ bs, da_ay N L B bs → wl ≤ bs.length) (hs : da_sq N L B z (i + 1) s t) (hn : da_nr (da_t1 N L B) m s t) (e : m + (i + 1) = wl) : da_nv near (s * 64 + t) = m := by
  obtain ⟨st1, st2⟩ := da_sq_st hk _ _ _ hs
  obtain ⟨⟨n1, n2, n3, n4⟩, _⟩ := hnf s t st1 st2
  have le := n4 m (by omega) hn
  obtain ⟨bs, e1, w1, w2⟩ := da_nr_of.mp (n3 (by omega))
  have := hmin _ (da_sq_ay i s t bs hs w1 w2)
  rw [List.length_append, da_sg_len] at this
  omega
/-- the spelled string is the least -/
theorem da_spell_min (hk : da_ok N L B) (hnf : da_nf N L B near life) {wl : Nat} (hwl : wl ≤ 240) (hmin : ∀ bs, da_ay N L B bs → wl ≤ bs.length) (hz : ∀ i, i < wl → z i < 2) (hz1 : ∀ i, i < wl → z i = 1 → ¬ ∃ s t, da_sq N L B (fun j => if j = i then 0 else z j) (i + 1) s t ∧ da_nv near (s * 64 + t) = wl - (i + 1)) :
    ∀ bs, da_ay N L B bs → da_cd 1 (da_sg z 0 wl) ≤ da_cd 1 bs := by
  intro bs hb
  have hbb := da_ay_b hk hb
  have hl := hmin bs hb
  have zb : ∀ c, c ∈ da_sg z 0 wl → c < 2 := by
    have : ∀ n i, i + n ≤ wl → ∀ c, c ∈ da_sg z i n → c < 2 := by
      intro n
      induction n with
      | zero => intro i _ c hc; exact absurd hc (by simp [da_sg])
      | succ n ih =>
        intro i hi c hc
        rcases List.mem_cons.mp hc with e | e
        · rw [e]; exact hz i (by omega)
        · exact ih (i + 1) (by omega) c e
    exact this wl 0 (by omega)
  rcases Nat.lt_or_ge wl bs.length with lt | ge
  · exact Nat.le_of_lt (da_cd_lt (by rw [da_sg_len]; exact lt) zb)
  · have el : bs.length = wl := by omega
    have key : ∀ i, i ≤ wl → da_cd 1 (da_sg z 0 i) < da_cd 1 (bs.take i) ∨ (da_cd 1 (da_sg z 0 i) = da_cd 1 (bs.take i) ∧ ∀ j, j < i → bs.getD j 0 = z j) := by
      intro i
      induction i with
      | zero => intro _; exact Or.inr ⟨by simp [da_sg, da_cd], fun j hj => by omega⟩
      | succ i ih =>
        intro hi
        have ti : bs.take (i + 1) = bs.take i ++ [bs.getD i 0] := by
          rw [List.take_add_one, List.getD_eq_getElem?_getD, List.getElem?_eq_getElem (show i < bs.length by omega)]
          rfl
        have hbi : bs.getD i 0 < 2 := by
          rw [List.getD_eq_getElem?_getD, List.getElem?_eq_getElem (show i < bs.length by omega)]
          exact hbb _ (List.getElem_mem (show i < bs.length by omega))
        have hzi := hz i (by omega)
        rw [ti, da_cd_snoc, da_sg_snoc, Nat.zero_add, da_cd_snoc]
        rcases ih (by omega) with q | ⟨q, hq⟩
        · exact Or.inl (by omega)
        · rcases Nat.lt_trichotomy (z i) (bs.getD i 0) with y | y | y
          · exact Or.inl (by omega)
          · refine Or.inr ⟨by omega, fun j hj => ?_⟩
            rcases Nat.lt_or_ge j i with v | v
            · exact hq j v
            · have : j = i := by omega
              subst this; exact y.symm
          · exfalso
            have z1 : z i = 1 := by omega
            have b0 : bs.getD i 0 = 0 := by omega
            obtain ⟨s, t, a1, a2, a3⟩ := da_ay_sq (z := fun j => if j = i then 0 else z j) hb (i + 1) (by omega) (by omega) (fun j hj => by
              by_cases e : j = i
              · subst e; simp only [if_true]; exact b0
              · simp only [if_neg e]; exact hq j (by omega))
            refine hz1 i (by omega) z1 ⟨s, t, a1, ?_⟩
            refine da_near_eq hk hnf hwl hmin a1 (da_nr_of.mpr ⟨bs.drop (i + 1), ?_, a2, a3⟩) (by omega)
            rw [List.length_drop, el]
    have := key wl (Nat.le_refl _)
    rw [List.take_of_length_le (by omega)] at this
    omega
end
def da_sA (N : Nat) (L : Nat → Nat) (B : Nat → Nat → Nat) (d : Nat) : Prop := d < 9999 → ∃ bs, da_ay N L B bs ∧ bs.length = d
def da_sh (N : Nat) (L : Nat → Nat) (B : Nat → Nat → Nat) (d : Nat) : Prop := d ≤ 9999 ∧ 1 ≤ d ∧ da_sA N L B d ∧ (∀ bs, da_ay N L B bs → bs.length ≤ 241 → d ≤ bs.length)
section
variable {yf_maxWords yf_maxLength yf_capacity yf_n yf_verdict yf_witLen yf_textLen yf_pos yf_finished yf_settledN yf_opens : Int32} {ya_word ya_wlen ya_delays ya_wit ya_text ya_near ya_life ya_set ya_next ya_ways ya_msg ya_settled : Nat → Int32}
theorem yw_sh16 {N k1 : Nat} {post : Int32 → Prop} {J6 : Int32 → Int32 → Prop} (hc : da_cok N ya_word ya_wlen) (hk1 : k1 < N) (hnf : da_nf N (da_L ya_wlen) (da_B ya_word ya_wlen) ya_near ya_life) {Q : Nat → Prop} (hQ : ∀ d d', Q d → d' ≤ d → Q d')
    (hJ : ∀ d, d ≤ 9999 → 1 ≤ d → da_sA N (da_L ya_wlen) (da_B ya_word ya_wlen) d → Q d → (∀ k2 c s t, k2 < N → k1 ≠ k2 → da_tr N (da_L ya_wlen) (da_B ya_word ya_wlen) 0 k1 c s → da_tr N (da_L ya_wlen) (da_B ya_word ya_wlen) 0 k2 c t → d ≤ da_nv ya_near (s * 64 + t) + 1) → J6 (nI d) (nI (k1 + 1))) :
    ∀ f k2 d, k2 ≤ N → N - k2 < f → d ≤ 9999 → 1 ≤ d → da_sA N (da_L ya_wlen) (da_B ya_word ya_wlen) d → Q d → (∀ k c s t, k < k2 → k1 ≠ k → da_tr N (da_L ya_wlen) (da_B ya_word ya_wlen) 0 k1 c s → da_tr N (da_L ya_wlen) (da_B ya_word ya_wlen) 0 k c t → d ≤ da_nv ya_near (s * 64 + t) + 1) →
      wY_shortest_16 post J6 (nI k1) yf_maxWords yf_maxLength yf_capacity (nI N) yf_verdict yf_witLen yf_textLen yf_pos yf_finished yf_settledN yf_opens ya_word ya_wlen ya_delays ya_wit ya_text ya_near ya_life ya_set ya_next ya_ways ya_msg ya_settled f (nI d) (nI k2) := by
  have hok := da_cok_ok hc
  have hN := hc.1
  obtain ⟨_, l1, l2, _⟩ := da_cok_v hc hk1
  intro f
  induction f with
  | zero => intro k2 d _ h0; omega
  | succ f ih =>
    intro k2 d hk2 hf hd hd1 hA hq hP
    refine pk_le N k2 (fun q => ?_) (fun q => ?_)
    · exact nm_r (nI_1 k1) (hJ d hd hd1 hA hq (fun k c s t w1 w2 w3 w4 => hP k c s t (by omega) w2 w3 w4))
    · have hB := hok.2.2.1 k1 0
      refine yw_bitOf (j := 0) hc hk1 (by omega) (fun _ => ?_) (fun w => by omega)
      refine yw_step (s := 0) hc (by omega) hk1 hB (fun r1 hr1 => ?_)
      refine yw_step (s := 0) hc (by omega) q hB (fun r2 hr2 => ?_)
      have skip : (∀ c s t, k1 ≠ k2 → da_tr N (da_L ya_wlen) (da_B ya_word ya_wlen) 0 k1 c s → da_tr N (da_L ya_wlen) (da_B ya_word ya_wlen) 0 k2 c t → d ≤ da_nv ya_near (s * 64 + t) + 1) → wY_shortest_16 post J6 (nI k1) yf_maxWords yf_maxLength yf_capacity (nI N) yf_verdict yf_witLen yf_textLen yf_pos yf_finished yf_settledN yf_opens ya_word ya_wlen ya_delays ya_wit ya_text ya_near ya_life ya_set ya_next ya_ways ya_msg ya_settled f (nI d) (nI (k2 + 1)) := by
        intro hno
        refine ih (k2 + 1) d (by omega) (by omega) hd hd1 hA hq (fun k c s t w1 w2 w3 w4 => ?_)
        rcases Nat.lt_or_ge k k2 with v | v
        · exact hP k c s t v w2 w3 w4
        · have : k = k2 := by omega
          subst this
          exact hno c s t w2 w3 w4
      refine pk_eq k1 k2 (fun z => nm_r (nI_1 k2) (skip (fun c s t w => absurd z w))) (fun z => ?_)
      rcases hr1 with ⟨p1, p2⟩ | ⟨s, p1, p2, p3⟩
      · exact absurd ⟨hk1, Or.inl rfl, by omega, rfl, rfl⟩ (p2 _)
      · rw [p2]
        refine br_f (nI_pos (by omega)) ?_
        have bit : ∀ {c s'}, da_tr N (da_L ya_wlen) (da_B ya_word ya_wlen) 0 k1 c s' → c = da_B ya_word ya_wlen k1 0 := fun w => w.2.2.2.1.symm
        rcases hr2 with ⟨q1, q2⟩ | ⟨t, q1, q2, q3⟩
        · rw [q1]
          refine br_f (by decide) (nm_r (nI_1 k2) (skip (fun c s' t' _ w1 w2 => ?_)))
          have := bit w1
          subst this
          exact absurd w2 (q2 t')
        · rw [q2]
          have e64 : nI s * 64 + nI t = nI (s * 64 + t) := by rw [show (64 : Int32) = nI 64 from rfl, pk_mul, nI_add]
          have cq : (nI (s * 64 + t)).toNatClampNeg = s * 64 + t := nI_clamp (by omega)
          have iq : vp_in (nI (s * 64 + t)) 4096 := vp_in_nI (by omega) (by omega)
          have st1 := da_t1_st hok ⟨_, p3⟩
          have st2 := da_t1_st hok ⟨_, q3⟩
          obtain ⟨⟨n1, n2, n3, n4⟩, _⟩ := hnf s t st1 st2
          rw [e64, cq, n1, nI_1]
          have same : ∀ c s' t', da_tr N (da_L ya_wlen) (da_B ya_word ya_wlen) 0 k1 c s' → da_tr N (da_L ya_wlen) (da_B ya_word ya_wlen) 0 k2 c t' → s' = s ∧ t' = t := by
            intro c s' t' w1 w2
            have := bit w1
            subst this
            exact ⟨da_tr_u w1 p3, da_tr_u w2 q3⟩
          refine br_t (nI_pos' (by omega)) ⟨iq, pk_le d (da_nv ya_near (s * 64 + t) + 1) (fun y => ?_) (fun y => ⟨iq, nm_e (nm_r (nI_1 k2) ?_)⟩)⟩
          · refine nm_r (nI_1 k2) (skip (fun c s' t' _ w1 w2 => ?_))
            obtain ⟨ea, eb⟩ := same c s' t' w1 w2
            subst ea; subst eb; exact y
          · refine ih (k2 + 1) _ (by omega) (by omega) (by omega) (by omega) (fun w => ?_) (hQ d _ hq (by omega)) (fun k c s' t' w1 w2 w3 w4 => ?_)
            · obtain ⟨bs, e1, w1, w2⟩ := da_nr_of.mp (n3 (by omega))
              exact ⟨_ :: bs, ⟨_, bs, k1, k2, s, t, rfl, z, p3, q3, w1, w2⟩, by simp [e1]⟩
            · rcases Nat.lt_or_ge k k2 with v | v
              · have := hP k c s' t' v w2 w3 w4; omega
              · have : k = k2 := by omega
                subst this
                obtain ⟨ea, eb⟩ := same c s' t' w3 w4
                subst ea; subst eb; exact Nat.le_refl _
theorem yw_shortest {N : Nat} {post : Int32 → Prop} (hc : da_cok N ya_word ya_wlen) (hnf : da_nf N (da_L ya_wlen) (da_B ya_word ya_wlen) ya_near ya_life)
    (h : ∀ d, da_sh N (da_L ya_wlen) (da_B ya_word ya_wlen) d → post (nI d)) : wpY_shortest post (yf_maxWords, yf_maxLength, yf_capacity, nI N, yf_verdict, yf_witLen, yf_textLen, yf_pos, yf_finished, yf_settledN, yf_opens, ya_word, ya_wlen, ya_delays, ya_wit, ya_text, ya_near, ya_life, ya_set, ya_next, ya_ways, ya_msg, ya_settled) := by
  have hok := da_cok_ok hc
  have hN := hc.1
  have main : ∀ f k1 d, k1 ≤ N → N - k1 < f → d ≤ 9999 → 1 ≤ d → da_sA N (da_L ya_wlen) (da_B ya_word ya_wlen) d → (∀ k k2 c s t, k < k1 → k2 < N → k ≠ k2 → da_tr N (da_L ya_wlen) (da_B ya_word ya_wlen) 0 k c s → da_tr N (da_L ya_wlen) (da_B ya_word ya_wlen) 0 k2 c t → d ≤ da_nv ya_near (s * 64 + t) + 1) →
      wY_shortest_6 post yf_maxWords yf_maxLength yf_capacity (nI N) yf_verdict yf_witLen yf_textLen yf_pos yf_finished yf_settledN yf_opens ya_word ya_wlen ya_delays ya_wit ya_text ya_near ya_life ya_set ya_next ya_ways ya_msg ya_settled f (nI d) (nI k1) := by
    intro f
    induction f with
    | zero => intro k1 d _ h0; omega
    | succ f ih =>
      intro k1 d hk1 hf hd hd1 hA hP
      refine pk_le N k1 (fun q => ?_) (fun q => ?_)
      · refine h d ⟨hd, hd1, hA, ?_⟩
        rintro bs ⟨c, bs', a, b, s, t, e, hne, u1, u2, u3, u4⟩ hl
        subst e
        have st1 := da_t1_st hok ⟨_, u1⟩
        have st2 := da_t1_st hok ⟨_, u2⟩
        have hn := (hnf s t st1 st2).1.2.2.2 bs'.length (by simp at hl; omega) (da_nr_of.mpr ⟨bs', rfl, u3, u4⟩)
        have ha := u1.1
        have := hP a b c s t (by omega) u2.1 hne u1 u2
        simp only [List.length_cons]; omega
      · refine ⟨N + 1, yw_sh16 hc q hnf (Q := fun d => ∀ k k2 c s t, k < k1 → k2 < N → k ≠ k2 → da_tr N (da_L ya_wlen) (da_B ya_word ya_wlen) 0 k c s → da_tr N (da_L ya_wlen) (da_B ya_word ya_wlen) 0 k2 c t → d ≤ da_nv ya_near (s * 64 + t) + 1) (fun d d' w1 w2 k k2 c s t v1 v2 v3 v4 v5 => Nat.le_trans w2 (w1 k k2 c s t v1 v2 v3 v4 v5)) (fun d w1 w2 w3 w4 w5 => ?_) (N + 1) 0 d (by omega) (by omega) hd hd1 hA hP (fun k c s t w => by omega)⟩
        refine ih (k1 + 1) d (by omega) (by omega) w1 w2 w3 (fun k k2 c s t v1 v2 v3 v4 v5 => ?_)
        rcases Nat.lt_or_ge k k1 with v | v
        · exact w4 k k2 c s t v v2 v3 v4 v5
        · have : k = k1 := by omega
          subst this
          exact w5 k2 c s t v2 v3 v4 v5
  exact ⟨N + 1, main (N + 1) 0 9999 (by omega) (by omega) (by omega) (by omega) (fun w => by omega) (fun k k2 c s t w => by omega)⟩
end
end
section
/-! the reference's advance, spell and analyse -/
def da_av (N : Nat) (L : Nat → Nat) (B : Nat → Nat → Nat) (near : Nat → Int32) (i c : Nat) (lf : Int32) (P : Nat → Prop) (p k1 k2 q : Nat) : Prop :=
  ∃ p' a b s' t', P p' ∧ p' < 4096 ∧ (p' < p ∨ (p' = p ∧ (a < k1 ∨ (a = k1 ∧ b < k2)))) ∧ da_tr N L B (p' / 64) a c s' ∧ da_tr N L B (p' % 64) b c t' ∧ (i ≠ 0 ∨ a ≠ b) ∧ near (s' * 64 + t') = lf ∧ q = s' * 64 + t'
def da_fl (fl : Int32) (Q : Nat → Prop) : Prop := (fl = 1 ∧ ∃ q, Q q) ∨ (fl = 0 ∧ ∀ q, ¬ Q q)
theorem da_fl_c {fl : Int32} {P Q : Nat → Prop} (e : ∀ q, P q ↔ Q q) (h : da_fl fl P) : da_fl fl Q := by
  rcases h with ⟨a, q, b⟩ | ⟨a, b⟩
  · exact Or.inl ⟨a, q, (e q).mp b⟩
  · exact Or.inr ⟨a, fun q w => b q ((e q).mpr w)⟩
section
variable {N : Nat} {L : Nat → Nat} {B : Nat → Nat → Nat} {near : Nat → Int32} {i c : Nat} {lf : Int32} {P : Nat → Prop} {p k1 k2 : Nat}
theorem da_av_skip (h : ∀ s' t', P p → da_tr N L B (p / 64) k1 c s' → da_tr N L B (p % 64) k2 c t' → (i ≠ 0 ∨ k1 ≠ k2) → ¬ near (s' * 64 + t') = lf) (q : Nat) : da_av N L B near i c lf P p k1 k2 q ↔ da_av N L B near i c lf P p k1 (k2 + 1) q := by
  constructor
  · rintro ⟨p', a, b, s', t', h1, h2, h3, h4⟩
    exact ⟨p', a, b, s', t', h1, h2, by omega, h4⟩
  · rintro ⟨p', a, b, s', t', h1, h2, h3, h4, h5, h6, h7, h8⟩
    by_cases e : p' = p ∧ a = k1 ∧ b = k2
    · obtain ⟨rfl, rfl, rfl⟩ := e
      exact absurd h7 (h s' t' h1 h4 h5 h6)
    · exact ⟨p', a, b, s', t', h1, h2, by omega, h4, h5, h6, h7, h8⟩
theorem da_av_add {s' t' : Nat} (hp : P p) (hp2 : p < 4096) (t1 : da_tr N L B (p / 64) k1 c s') (t2 : da_tr N L B (p % 64) k2 c t') (hi : i ≠ 0 ∨ k1 ≠ k2) (hn : near (s' * 64 + t') = lf) (q : Nat) : (da_av N L B near i c lf P p k1 k2 q ∨ q = s' * 64 + t') ↔ da_av N L B near i c lf P p k1 (k2 + 1) q := by
  constructor
  · rintro (⟨p', a, b, s', t', h1, h2, h3, h4⟩ | e)
    · exact ⟨p', a, b, s', t', h1, h2, by omega, h4⟩
    · exact ⟨p, k1, k2, s', t', hp, hp2, by omega, t1, t2, hi, hn, e⟩
  · rintro ⟨p', a, b, s2, t2', h1, h2, h3, h4, h5, h6, h7, h8⟩
    by_cases e : p' = p ∧ a = k1 ∧ b = k2
    · obtain ⟨rfl, rfl, rfl⟩ := e
      have e1 := da_tr_u h4 t1
      have e2 := da_tr_u h5 t2
      subst e1; subst e2
      exact Or.inr h8
    · exact Or.inl ⟨p', a, b, s2, t2', h1, h2, by omega, h4, h5, h6, h7, h8⟩
theorem da_av_k1 (q : Nat) : da_av N L B near i c lf P p k1 N q ↔ da_av N L B near i c lf P p (k1 + 1) 0 q := by
  constructor
  · rintro ⟨p', a, b, s', t', h1, h2, h3, h4⟩
    exact ⟨p', a, b, s', t', h1, h2, by omega, h4⟩
  · rintro ⟨p', a, b, s', t', h1, h2, h3, h4, h5, h6⟩
    have := h5.1
    exact ⟨p', a, b, s', t', h1, h2, by omega, h4, h5, h6⟩
theorem da_av_p (q : Nat) : da_av N L B near i c lf P p N 0 q ↔ da_av N L B near i c lf P (p + 1) 0 0 q := by
  constructor
  · rintro ⟨p', a, b, s', t', h1, h2, h3, h4⟩
    exact ⟨p', a, b, s', t', h1, h2, by omega, h4⟩
  · rintro ⟨p', a, b, s', t', h1, h2, h3, h4, h5, h6⟩
    have := h4.1
    exact ⟨p', a, b, s', t', h1, h2, by omega, h4, h5, h6⟩
theorem da_av_np (h : ¬ P p) (q : Nat) : da_av N L B near i c lf P p 0 0 q ↔ da_av N L B near i c lf P (p + 1) 0 0 q := by
  constructor
  · rintro ⟨p', a, b, s', t', h1, h2, h3, h4⟩
    exact ⟨p', a, b, s', t', h1, h2, by omega, h4⟩
  · rintro ⟨p', a, b, s', t', h1, h2, h3, h4⟩
    have : p' ≠ p := fun e => h (e ▸ h1)
    exact ⟨p', a, b, s', t', h1, h2, by omega, h4⟩
end
section
variable {yf_maxWords yf_maxLength yf_capacity yf_n yf_verdict yf_witLen yf_textLen yf_pos yf_finished yf_settledN yf_opens : Int32} {ya_word ya_wlen ya_delays ya_wit ya_text ya_near ya_life ya_set ya_next ya_ways ya_msg ya_settled : Nat → Int32}
theorem yw_av67 {N i c p k1 : Nat} {lf : Int32} {P : Nat → Prop} {post : Int32 → SY → Prop} {J31 J55 : Int32 → Int32 → (Nat → Int32) → (Nat → Int32) → (Nat → Int32) → (Nat → Int32) → (Nat → Int32) → (Nat → Int32) → (Nat → Int32) → (Nat → Int32) → (Nat → Int32) → (Nat → Int32) → (Nat → Int32) → (Nat → Int32) → Prop} (hc : da_cok N ya_word ya_wlen) (hi : i < 240) (hcc : c < 2) (hp : p < 4096) (hP : P p) (hk1 : k1 < N)
    (hJ : ∀ fl next, da_is (da_av N (da_L ya_wlen) (da_B ya_word ya_wlen) ya_near i c lf P p (k1 + 1) 0) 4096 next → da_fl fl (da_av N (da_L ya_wlen) (da_B ya_word ya_wlen) ya_near i c lf P p (k1 + 1) 0) → J55 fl (nI (k1 + 1)) ya_word ya_wlen ya_delays ya_wit ya_text ya_near ya_life ya_set next ya_ways ya_msg ya_settled) :
    ∀ f k2 fl next, k2 ≤ N → N - k2 < f → da_is (da_av N (da_L ya_wlen) (da_B ya_word ya_wlen) ya_near i c lf P p k1 k2) 4096 next → da_fl fl (da_av N (da_L ya_wlen) (da_B ya_word ya_wlen) ya_near i c lf P p k1 k2) →
      wY_advance_67 post J31 J55 (nI i) (nI c) lf (nI p) (nI k1) yf_maxWords yf_maxLength yf_capacity (nI N) yf_verdict yf_witLen yf_textLen yf_pos yf_finished yf_settledN yf_opens f fl (nI k2) ya_word ya_wlen ya_delays ya_wit ya_text ya_near ya_life ya_set next ya_ways ya_msg ya_settled := by
  have hok := da_cok_ok hc
  have hN := hc.1
  intro f
  induction f with
  | zero => intro k2 fl next _ h0; omega
  | succ f ih =>
    intro k2 fl next hk2 hf hn hfl
    refine pk_le N k2 (fun q => ?_) (fun q => ?_)
    · have : k2 = N := by omega
      subst this
      exact nm_r (nI_1 k1) (hJ fl next (da_is_c hn (fun x _ => da_av_k1 x)) (da_fl_c (fun x => da_av_k1 x) hfl))
    · have e1 : nI p - nI p / 64 * 64 = nI (p % 64) := pk_rem (d := 64) (by omega) (by omega) (by omega)
      have e2 : nI p / 64 = nI (p / 64) := pk_div (d := 64) (by omega) (by omega) (by omega)
      rw [e1, e2]
      refine ⟨by decide, yw_step hc (by omega) hk1 hcc (fun r1 hr1 => ⟨by decide, yw_step hc (by omega) q hcc (fun r2 hr2 => ?_)⟩)⟩
      have skip : (∀ s' t', P p → da_tr N (da_L ya_wlen) (da_B ya_word ya_wlen) (p / 64) k1 c s' → da_tr N (da_L ya_wlen) (da_B ya_word ya_wlen) (p % 64) k2 c t' → (i ≠ 0 ∨ k1 ≠ k2) → ¬ ya_near (s' * 64 + t') = lf) → wY_advance_67 post J31 J55 (nI i) (nI c) lf (nI p) (nI k1) yf_maxWords yf_maxLength yf_capacity (nI N) yf_verdict yf_witLen yf_textLen yf_pos yf_finished yf_settledN yf_opens f fl (nI (k2 + 1)) ya_word ya_wlen ya_delays ya_wit ya_text ya_near ya_life ya_set next ya_ways ya_msg ya_settled := by
        intro hno
        exact ih (k2 + 1) fl next (by omega) (by omega) (da_is_c hn (fun x _ => da_av_skip hno x)) (da_fl_c (fun x => da_av_skip hno x) hfl)
      have go : (i ≠ 0 ∨ k1 ≠ k2) → wY_advance_115 post J31 J55 (wY_advance_67 post J31 J55 (nI i) (nI c) lf (nI p) (nI k1) yf_maxWords yf_maxLength yf_capacity (nI N) yf_verdict yf_witLen yf_textLen yf_pos yf_finished yf_settledN yf_opens f) (nI i) (nI c) lf fl (nI p) (nI k1) (nI k2) r1 r2 yf_maxWords yf_maxLength yf_capacity (nI N) yf_verdict yf_witLen yf_textLen yf_pos yf_finished yf_settledN yf_opens ya_word ya_wlen ya_delays ya_wit ya_text ya_near ya_life ya_set next ya_ways ya_msg ya_settled := by
        intro hik
        rcases hr1 with ⟨p1, p2⟩ | ⟨s', p1, p2, p3⟩
        · rw [p1]
          exact br_t da_neg1 (nm_r (nI_1 k2) (skip (fun s' t' _ w => absurd w (p2 s'))))
        · rw [p2]
          refine br_f (nI_pos (by omega)) ?_
          rcases hr2 with ⟨q1, q2⟩ | ⟨t', q1, q2, q3⟩
          · rw [q1]
            exact br_f (by decide) (nm_r (nI_1 k2) (skip (fun s' t' _ _ w => absurd w (q2 t'))))
          · rw [q2]
            have e64 : nI s' * 64 + nI t' = nI (s' * 64 + t') := by rw [show (64 : Int32) = nI 64 from rfl, pk_mul, nI_add]
            have cq : (nI (s' * 64 + t')).toNatClampNeg = s' * 64 + t' := nI_clamp (by omega)
            have iq : vp_in (nI (s' * 64 + t')) 4096 := vp_in_nI (by omega) (by omega)
            rw [e64, cq]
            refine br_t (nI_pos' (by omega)) ⟨iq, br_c (fun z => ⟨iq, nm_e (nm_r (nI_1 k2) ?_)⟩) (fun z => nm_r (nI_1 k2) (skip (fun s2 t2 _ w1 w2 _ => ?_)))⟩
            · refine ih (k2 + 1) 1 _ (by omega) (by omega) (da_is_c (da_is_set hn) (fun x _ => da_av_add hP hp p3 q3 hik z x)) (Or.inl ⟨rfl, s' * 64 + t', (da_av_add hP hp p3 q3 hik z _).mp (Or.inr rfl)⟩)
            · have a1 := da_tr_u w1 p3
              have a2 := da_tr_u w2 q3
              subst a1; subst a2; exact z
      refine pk_eq i 0 (fun z => ?_) (fun z => go (Or.inl z))
      exact pk_eq k1 k2 (fun y => nm_r (nI_1 k2) (skip (fun _ _ _ _ _ w => by omega))) (fun y => go (Or.inr y))
theorem yw_av55 {N i c p : Nat} {lf : Int32} {P : Nat → Prop} {post : Int32 → SY → Prop} {J31 : Int32 → Int32 → (Nat → Int32) → (Nat → Int32) → (Nat → Int32) → (Nat → Int32) → (Nat → Int32) → (Nat → Int32) → (Nat → Int32) → (Nat → Int32) → (Nat → Int32) → (Nat → Int32) → (Nat → Int32) → (Nat → Int32) → Prop} (hc : da_cok N ya_word ya_wlen) (hi : i < 240) (hcc : c < 2) (hp : p < 4096) (hP : P p)
    (hJ : ∀ fl next, da_is (da_av N (da_L ya_wlen) (da_B ya_word ya_wlen) ya_near i c lf P (p + 1) 0 0) 4096 next → da_fl fl (da_av N (da_L ya_wlen) (da_B ya_word ya_wlen) ya_near i c lf P (p + 1) 0 0) → J31 fl (nI (p + 1)) ya_word ya_wlen ya_delays ya_wit ya_text ya_near ya_life ya_set next ya_ways ya_msg ya_settled) :
    ∀ f k1 fl next, k1 ≤ N → N - k1 < f → da_is (da_av N (da_L ya_wlen) (da_B ya_word ya_wlen) ya_near i c lf P p k1 0) 4096 next → da_fl fl (da_av N (da_L ya_wlen) (da_B ya_word ya_wlen) ya_near i c lf P p k1 0) →
      wY_advance_55 post J31 (nI i) (nI c) lf (nI p) yf_maxWords yf_maxLength yf_capacity (nI N) yf_verdict yf_witLen yf_textLen yf_pos yf_finished yf_settledN yf_opens f fl (nI k1) ya_word ya_wlen ya_delays ya_wit ya_text ya_near ya_life ya_set next ya_ways ya_msg ya_settled := by
  have hN := hc.1
  intro f
  induction f with
  | zero => intro k1 fl next _ h0; omega
  | succ f ih =>
    intro k1 fl next hk1 hf hn hfl
    refine pk_le N k1 (fun q => ?_) (fun q => ?_)
    · have : k1 = N := by omega
      subst this
      exact nm_r (nI_1 p) (hJ fl next (da_is_c hn (fun x _ => da_av_p x)) (da_fl_c (fun x => da_av_p x) hfl))
    · exact ⟨N + 1, yw_av67 hc hi hcc hp hP q (fun fl next h1 h2 => ih (k1 + 1) fl next (by omega) (by omega) h1 h2) (N + 1) 0 fl next (by omega) (by omega) hn hfl⟩
theorem yw_av31 {N i c : Nat} {lf : Int32} {P : Nat → Prop} {post : Int32 → SY → Prop} (hc : da_cok N ya_word ya_wlen) (hi : i < 240) (hcc : c < 2) (hset : da_is P 4096 ya_set)
    (h : ∀ fl next, da_is (da_av N (da_L ya_wlen) (da_B ya_word ya_wlen) ya_near i c lf P 4096 0 0) 4096 next → da_fl fl (da_av N (da_L ya_wlen) (da_B ya_word ya_wlen) ya_near i c lf P 4096 0 0) → post fl (yf_maxWords, yf_maxLength, yf_capacity, nI N, yf_verdict, yf_witLen, yf_textLen, yf_pos, yf_finished, yf_settledN, yf_opens, ya_word, ya_wlen, ya_delays, ya_wit, ya_text, ya_near, ya_life, ya_set, next, ya_ways, ya_msg, ya_settled)) :
    ∀ f p fl next, p ≤ 4096 → 4096 - p < f → da_is (da_av N (da_L ya_wlen) (da_B ya_word ya_wlen) ya_near i c lf P p 0 0) 4096 next → da_fl fl (da_av N (da_L ya_wlen) (da_B ya_word ya_wlen) ya_near i c lf P p 0 0) →
      wY_advance_31 post (nI i) (nI c) lf yf_maxWords yf_maxLength yf_capacity (nI N) yf_verdict yf_witLen yf_textLen yf_pos yf_finished yf_settledN yf_opens f fl (nI p) ya_word ya_wlen ya_delays ya_wit ya_text ya_near ya_life ya_set next ya_ways ya_msg ya_settled := by
  intro f
  induction f with
  | zero => intro p fl next _ h0; omega
  | succ f ih =>
    intro p fl next hp hf hn hfl
    have cp : (nI p).toNatClampNeg = p := nI_clamp (by omega)
    refine pk_le 4096 p (fun q => ?_) (fun q => ?_)
    · have : p = 4096 := by omega
      subst this
      refine ⟨?_, h fl next hn hfl⟩
      rcases hfl with ⟨y, _⟩ | ⟨y, _⟩
      · rw [y]; rfl
      · rw [y]; rfl
    · rw [cp]
      refine ⟨vp_in_nI (by omega) (by omega), ?_⟩
      rcases hset p q with ⟨x, y⟩ | ⟨x, y⟩
      · rw [x]
        exact br_f da_10 ⟨N + 1, yw_av55 hc hi hcc q y (fun fl next h1 h2 => ih (p + 1) fl next (by omega) (by omega) h1 h2) (N + 1) 0 fl next (by omega) (by omega) hn hfl⟩
      · rw [x]
        exact br_t rfl (nm_r (nI_1 p) (ih (p + 1) fl next (by omega) (by omega) (da_is_c hn (fun x _ => da_av_np y x)) (da_fl_c (fun x => da_av_np y x) hfl)))
theorem yw_advance {N i c : Nat} {lf : Int32} {P : Nat → Prop} {post : Int32 → SY → Prop} (hc : da_cok N ya_word ya_wlen) (hi : i < 240) (hcc : c < 2) (hset : da_is P 4096 ya_set)
    (h : ∀ fl next, da_is (da_av N (da_L ya_wlen) (da_B ya_word ya_wlen) ya_near i c lf P 4096 0 0) 4096 next → da_fl fl (da_av N (da_L ya_wlen) (da_B ya_word ya_wlen) ya_near i c lf P 4096 0 0) → post fl (yf_maxWords, yf_maxLength, yf_capacity, nI N, yf_verdict, yf_witLen, yf_textLen, yf_pos, yf_finished, yf_settledN, yf_opens, ya_word, ya_wlen, ya_delays, ya_wit, ya_text, ya_near, ya_life, ya_set, next, ya_ways, ya_msg, ya_settled)) :
    wpY_advance post (yf_maxWords, yf_maxLength, yf_capacity, nI N, yf_verdict, yf_witLen, yf_textLen, yf_pos, yf_finished, yf_settledN, yf_opens, ya_word, ya_wlen, ya_delays, ya_wit, ya_text, ya_near, ya_life, ya_set, ya_next, ya_ways, ya_msg, ya_settled) (nI i) (nI c) lf := by
  have main : ∀ f p next, p ≤ 4096 → 4096 - p < f → (∀ x, x < p → next x = 0) → wY_advance_6 post (nI i) (nI c) lf 0 yf_maxWords yf_maxLength yf_capacity (nI N) yf_verdict yf_witLen yf_textLen yf_pos yf_finished yf_settledN yf_opens f (nI p) ya_word ya_wlen ya_delays ya_wit ya_text ya_near ya_life ya_set next ya_ways ya_msg ya_settled := by
    intro f
    induction f with
    | zero => intro p next _ h0; omega
    | succ f ih =>
      intro p next hp hf hn
      have cp : (nI p).toNatClampNeg = p := nI_clamp (by omega)
      refine pk_le 4096 p (fun q => ?_) (fun q => ?_)
      · have none : ∀ x, ¬ da_av N (da_L ya_wlen) (da_B ya_word ya_wlen) ya_near i c lf P 0 0 0 x := by
          rintro x ⟨p', a, b, s', t', h1, h2, h3, _⟩
          omega
        exact ⟨4097, yw_av31 hc hi hcc hset h 4097 0 0 next (by omega) (by omega) (fun x hx => Or.inr ⟨hn x (by omega), none x⟩) (Or.inr ⟨rfl, none⟩)⟩
      · rw [cp]
        refine ⟨vp_in_nI (by omega) (by omega), nm_e (nm_r (nI_1 p) (ih (p + 1) _ (by omega) (by omega) (fun x hx => ?_)))⟩
        by_cases e : x = p
        · subst e; exact pk_us
        · rw [pk_un e]; exact hn x (by omega)
  exact ⟨4097, main 4097 0 ya_next (by omega) (by omega) (fun x hx => by omega)⟩
end
def da_zu (z : Nat → Nat) (i c : Nat) : Nat → Nat := fun j => if j = i then c else z j
theorem da_zu_s {z : Nat → Nat} {i c : Nat} : da_zu z i c i = c := if_pos rfl
theorem da_zu_n {z : Nat → Nat} {i c j : Nat} (h : j ≠ i) : da_zu z i c j = z j := if_neg h
/-- the pairs in hand before bit i -/
def da_sP (N : Nat) (L : Nat → Nat) (B : Nat → Nat → Nat) (near : Nat → Int32) (wl : Nat) (z : Nat → Nat) (i p : Nat) : Prop := da_sq N L B z i (p / 64) (p % 64) ∧ (i = 0 ∨ da_nv near p = wl - i)
section
variable {N : Nat} {L : Nat → Nat} {B : Nat → Nat → Nat} {near life : Nat → Int32} {wl i c : Nat} {z : Nat → Nat}
theorem da_av_sP (hk : da_ok N L B) (hnf : da_nf N L B near life) (hwl : wl ≤ 240) (hi : i < wl) (hmin : ∀ bs, da_ay N L B bs → wl ≤ bs.length) (q : Nat) : da_av N L B near i c (nI (wl - (i + 1))) (da_sP N L B near wl z i) 4096 0 0 q ↔ da_sP N L B near wl (da_zu z i c) (i + 1) q := by
  constructor
  · rintro ⟨p', a, b, s', t', h1, h2, h3, h4, h5, h6, h7, h8⟩
    have st1 := da_st_lt hk (da_t1_st hk ⟨_, h4⟩)
    have st2 := da_st_lt hk (da_t1_st hk ⟨_, h5⟩)
    have e1 : q / 64 = s' := by omega
    have e2 : q % 64 = t' := by omega
    refine ⟨?_, Or.inr ?_⟩
    · rw [e1, e2]
      refine ⟨p' / 64, p' % 64, a, b, da_sq_c i _ _ (fun j hj => (da_zu_n (by omega)).symm) h1.1, ?_, ?_, h6⟩
      · rw [da_zu_s]; exact h4
      · rw [da_zu_s]; exact h5
    · unfold da_nv
      rw [h8, h7, nI_clamp (by omega)]
  · rintro ⟨⟨s0, t0, a, b, h1, h2, h3, h4⟩, h5⟩
    have h5 : da_nv near q = wl - (i + 1) := h5.resolve_left (by omega)
    rw [da_zu_s] at h2 h3
    have sts := da_t1_st hk ⟨_, h2⟩
    have stt := da_t1_st hk ⟨_, h3⟩
    have eq : q / 64 * 64 + q % 64 = q := by omega
    obtain ⟨⟨n1, n2, n3, n4⟩, _⟩ := hnf _ _ sts stt
    rw [eq, h5] at n1 n3
    have h1' : da_sq N L B z i s0 t0 := da_sq_c i _ _ (fun j hj => da_zu_n (by omega)) h1
    obtain ⟨sq1, sq2⟩ := da_sq_st hk _ _ _ h1'
    have l1 := da_st_lt hk sq1
    have l2 := da_st_lt hk sq2
    have d1 : (s0 * 64 + t0) / 64 = s0 := by omega
    have d2 : (s0 * 64 + t0) % 64 = t0 := by omega
    refine ⟨s0 * 64 + t0, a, b, q / 64, q % 64, ⟨?_, ?_⟩, by omega, Or.inl (by omega), ?_, ?_, h4, ?_, eq.symm⟩
    · rw [d1, d2]; exact h1'
    · by_cases i0 : i = 0
      · exact Or.inl i0
      · refine Or.inr ?_
        obtain ⟨i', rfl⟩ : ∃ i', i = i' + 1 := ⟨i - 1, by omega⟩
        refine da_near_eq hk hnf hwl hmin h1' (m := wl - (i' + 1)) ?_ (by omega)
        have := n3 (by omega)
        rw [show wl - (i' + 1) = (wl - (i' + 1 + 1)) + 1 by omega]
        exact ⟨c, _, _, ⟨a, h2⟩, ⟨b, h3⟩, this⟩
    · rw [d1]; exact h2
    · rw [d2]; exact h3
    · rw [eq, n1]
/-- some bit goes on -/
theorem da_sP_next (hk : da_ok N L B) (hnf : da_nf N L B near life) (hwl : wl ≤ 240) (hi : i < wl) (hmin : ∀ bs, da_ay N L B bs → wl ≤ bs.length) (hex : ∃ bs, da_ay N L B bs ∧ bs.length = wl) (h : ∃ p, da_sP N L B near wl z i p) : ∃ c, c < 2 ∧ ∃ p, da_sP N L B near wl (da_zu z i c) (i + 1) p := by
  have fin : ∀ c k1 k2 s0 t0 s t, da_sq N L B z i s0 t0 → da_tr N L B s0 k1 c s → da_tr N L B t0 k2 c t → (i ≠ 0 ∨ k1 ≠ k2) → da_nr (da_t1 N L B) (wl - (i + 1)) s t → ∃ c, c < 2 ∧ ∃ p, da_sP N L B near wl (da_zu z i c) (i + 1) p := by
    intro c k1 k2 s0 t0 s t h1 h2 h3 h4 h5
    have hc := da_t1_b hk ⟨_, h2⟩
    have st1 := da_st_lt hk (da_t1_st hk ⟨_, h2⟩)
    have st2 := da_st_lt hk (da_t1_st hk ⟨_, h3⟩)
    have d1 : (s * 64 + t) / 64 = s := by omega
    have d2 : (s * 64 + t) % 64 = t := by omega
    have hsq : da_sq N L B (da_zu z i c) (i + 1) s t := ⟨s0, t0, k1, k2, da_sq_c i _ _ (fun j hj => (da_zu_n (by omega)).symm) h1, by rw [da_zu_s]; exact h2, by rw [da_zu_s]; exact h3, h4⟩
    refine ⟨c, hc, s * 64 + t, by rw [d1, d2]; exact hsq, Or.inr ?_⟩
    exact da_near_eq hk hnf hwl hmin hsq h5 (by omega)
  obtain ⟨p, h1, h2⟩ := h
  by_cases i0 : i = 0
  · subst i0
    obtain ⟨bs, ⟨c, bs', k1, k2, s, t, e, hne, u1, u2, u3, u4⟩, hl⟩ := hex
    subst e
    refine fin c k1 k2 0 0 s t ⟨rfl, rfl⟩ u1 u2 (Or.inr hne) (da_nr_of.mpr ⟨bs', ?_, u3, u4⟩)
    simp at hl; omega
  · have h2 := h2.resolve_left i0
    obtain ⟨sq1, sq2⟩ := da_sq_st hk _ _ _ h1
    obtain ⟨⟨n1, n2, n3, n4⟩, _⟩ := hnf _ _ sq1 sq2
    have eq : p / 64 * 64 + p % 64 = p := by omega
    rw [eq, h2] at n3
    have := n3 (by omega)
    rw [show wl - i = (wl - (i + 1)) + 1 by omega] at this
    obtain ⟨c, s, t, ⟨k1, u1⟩, ⟨k2, u2⟩, u3⟩ := this
    exact fin c k1 k2 _ _ s t h1 u1 u2 (Or.inl i0) u3
end
section
variable {yf_maxWords yf_maxLength yf_capacity yf_n yf_verdict yf_witLen yf_textLen yf_pos yf_finished yf_settledN yf_opens : Int32} {ya_word ya_wlen ya_delays ya_wit ya_text ya_near ya_life ya_set ya_next ya_ways ya_msg ya_settled : Nat → Int32}
theorem yw_sp94 {N i : Nat} {Q : Nat → Prop} {post : SY → Prop} {J31 : Int32 → Int32 → Int32 → Int32 → Int32 → Int32 → Int32 → Int32 → Int32 → Int32 → Int32 → Int32 → (Nat → Int32) → (Nat → Int32) → (Nat → Int32) → (Nat → Int32) → (Nat → Int32) → (Nat → Int32) → (Nat → Int32) → (Nat → Int32) → (Nat → Int32) → (Nat → Int32) → (Nat → Int32) → (Nat → Int32) → Prop} (hQ : da_is Q 4096 ya_next)
    (hJ : ∀ set, da_is Q 4096 set → J31 (nI (i + 1)) yf_maxWords yf_maxLength yf_capacity (nI N) yf_verdict yf_witLen yf_textLen yf_pos yf_finished yf_settledN yf_opens ya_word ya_wlen ya_delays ya_wit ya_text ya_near ya_life set ya_next ya_ways ya_msg ya_settled) :
    ∀ f p set, p ≤ 4096 → 4096 - p < f → (∀ x, x < p → set x = ya_next x) → wY_spell_94 post J31 (nI i) yf_maxWords yf_maxLength yf_capacity (nI N) yf_verdict yf_witLen yf_textLen yf_pos yf_finished yf_settledN yf_opens f (nI p) ya_word ya_wlen ya_delays ya_wit ya_text ya_near ya_life set ya_next ya_ways ya_msg ya_settled := by
  intro f
  induction f with
  | zero => intro p set _ h0; omega
  | succ f ih =>
    intro p set hp hf hs
    have cp : (nI p).toNatClampNeg = p := nI_clamp (by omega)
    refine pk_le 4096 p (fun q => ?_) (fun q => ?_)
    · refine nm_r (nI_1 i) (hJ set (fun x hx => ?_))
      rw [hs x (by omega)]; exact hQ x hx
    · rw [cp]
      have i1 : vp_in (nI p) 4096 := vp_in_nI (by omega) (by omega)
      refine ⟨i1, i1, nm_e (nm_r (nI_1 p) (ih (p + 1) _ (by omega) (by omega) (fun x hx => ?_)))⟩
      by_cases e : x = p
      · subst e; exact pk_us
      · rw [pk_un e]; exact hs x (by omega)
theorem yw_sp31 {N wl : Nat} {post : SY → Prop} (hc : da_cok N ya_word ya_wlen) (hnf : da_nf N (da_L ya_wlen) (da_B ya_word ya_wlen) ya_near ya_life) (hwl : wl ≤ 240) (h1w : 1 ≤ wl) (hmin : ∀ bs, da_ay N (da_L ya_wlen) (da_B ya_word ya_wlen) bs → wl ≤ bs.length) (hex : ∃ bs, da_ay N (da_L ya_wlen) (da_B ya_word ya_wlen) bs ∧ bs.length = wl)
    (h : ∀ bs wit set next, da_ay N (da_L ya_wlen) (da_B ya_word ya_wlen) bs → (∀ z, da_ay N (da_L ya_wlen) (da_B ya_word ya_wlen) z → da_cd 1 bs ≤ da_cd 1 z) → bs.length = wl → (∀ j, j < wl → wit j = nI (bs.getD j 0)) → post (yf_maxWords, yf_maxLength, yf_capacity, nI N, yf_verdict, nI wl, yf_textLen, yf_pos, yf_finished, yf_settledN, yf_opens, ya_word, ya_wlen, ya_delays, wit, ya_text, ya_near, ya_life, set, next, ya_ways, ya_msg, ya_settled)) :
    ∀ f i z wit set next, i ≤ wl → wl - i < f → (∀ j, j < i → wit j = nI (z j) ∧ z j < 2) → (∀ j, j < i → z j = 1 → ¬ ∃ s t, da_sq N (da_L ya_wlen) (da_B ya_word ya_wlen) (fun x => if x = j then 0 else z x) (j + 1) s t ∧ da_nv ya_near (s * 64 + t) = wl - (j + 1)) → da_is (da_sP N (da_L ya_wlen) (da_B ya_word ya_wlen) ya_near wl z i) 4096 set → (∃ p, da_sP N (da_L ya_wlen) (da_B ya_word ya_wlen) ya_near wl z i p) →
      wY_spell_31 post f (nI i) yf_maxWords yf_maxLength yf_capacity (nI N) yf_verdict (nI wl) yf_textLen yf_pos yf_finished yf_settledN yf_opens ya_word ya_wlen ya_delays wit ya_text ya_near ya_life set next ya_ways ya_msg ya_settled := by
  have hok := da_cok_ok hc
  intro f
  induction f with
  | zero => intro i z wit set next _ h0; omega
  | succ f ih =>
    intro i z wit set next hi hf hz hz1 hset hne
    refine pk_le wl i (fun q => ?_) (fun q => ?_)
    · have : i = wl := by omega
      subst this
      obtain ⟨p, p1, p2⟩ := hne
      have p2 := p2.resolve_left (by omega)
      obtain ⟨sq1, sq2⟩ := da_sq_st hok _ _ _ p1
      obtain ⟨⟨n1, n2, n3, n4⟩, _⟩ := hnf _ _ sq1 sq2
      rw [show p / 64 * 64 + p % 64 = p by omega, p2, Nat.sub_self] at n3
      obtain ⟨e1, e2⟩ := n3 (by omega)
      rw [e1, e2] at p1
      obtain ⟨i', rfl⟩ : ∃ i', i = i' + 1 := ⟨i - 1, by omega⟩
      have hay := da_sq_ay i' 0 0 [] p1 rfl rfl
      rw [List.append_nil] at hay
      refine h (da_sg z 0 (i' + 1)) wit set next hay (da_spell_min hok hnf hwl hmin (fun j hj => (hz j hj).2) hz1) (da_sg_len _ _ _) (fun j hj => ?_)
      rw [(hz j hj).1, da_sg_get _ _ _ _ hj, Nat.zero_add]
    · refine pk_le 240 i (fun q => by omega) (fun q2 => ?_)
      have ci : (nI i).toNatClampNeg = i := nI_clamp (by omega)
      have i1 : vp_in (nI i) 240 := vp_in_nI (by omega) (by omega)
      have elf : nI wl - nI i - 1 = nI (wl - (i + 1)) := by
        rw [pk_sub (by omega), show (1 : Int32) = nI 1 from rfl, pk_sub (by omega)]
        exact congrArg nI (by omega)
      rw [ci, elf]
      refine ⟨i1, nm_e ?_⟩
      refine yw_advance (c := 0) hc (by omega) (by omega) hset (fun fl next0 hn0 hfl0 => ?_)
      have hn0' : da_is (da_sP N (da_L ya_wlen) (da_B ya_word ya_wlen) ya_near wl (da_zu z i 0) (i + 1)) 4096 next0 := da_is_c hn0 (fun x _ => da_av_sP hok hnf hwl q hmin x)
      have hfl0' : da_fl fl (da_sP N (da_L ya_wlen) (da_B ya_word ya_wlen) ya_near wl (da_zu z i 0) (i + 1)) := da_fl_c (fun x => da_av_sP hok hnf hwl q hmin x) hfl0
      have keep1 : ∀ c, ∀ j, j < i → da_zu z i c j = 1 → ¬ ∃ s t, da_sq N (da_L ya_wlen) (da_B ya_word ya_wlen) (fun x => if x = j then 0 else da_zu z i c x) (j + 1) s t ∧ da_nv ya_near (s * 64 + t) = wl - (j + 1) := by
        intro c j hj e1
        rw [da_zu_n (by omega)] at e1
        rintro ⟨s, t, a1, a2⟩
        refine hz1 j hj e1 ⟨s, t, da_sq_c (j + 1) s t (fun x hx => ?_) a1, a2⟩
        by_cases y : x = j
        · simp only [y, if_true]
        · simp only [if_neg y]; exact da_zu_n (by omega)
      rcases hfl0' with ⟨f1, f2⟩ | ⟨f1, f2⟩
      · rw [f1]
        refine br_f da_10 ⟨4097, yw_sp94 hn0' (fun set' hs' => ?_) 4097 0 set (by omega) (by omega) (fun x hx => by omega)⟩
        refine ih (i + 1) (da_zu z i 0) _ set' next0 (by omega) (by omega) (fun j hj => ?_) (fun j hj e1 => ?_) hs' f2
        · by_cases y : j = i
          · subst y; rw [pk_us, da_zu_s]; exact ⟨rfl, by omega⟩
          · rw [pk_un y, da_zu_n y]; exact hz j (by omega)
        · rcases Nat.lt_or_ge j i with y | y
          · exact keep1 0 j y e1
          · have : j = i := by omega
            subst this
            rw [da_zu_s] at e1; omega
      · rw [f1]
        refine br_t rfl ⟨i1, nm_e ?_⟩
        refine yw_advance (c := 1) hc (by omega) (by omega) hset (fun fl1 next1 hn1 hfl1 => ?_)
        rw [elf] at hn1
        have hn1' : da_is (da_sP N (da_L ya_wlen) (da_B ya_word ya_wlen) ya_near wl (da_zu z i 1) (i + 1)) 4096 next1 := da_is_c hn1 (fun x _ => da_av_sP hok hnf hwl q hmin x)
        refine ⟨4097, yw_sp94 hn1' (fun set' hs' => ?_) 4097 0 set (by omega) (by omega) (fun x hx => by omega)⟩
        refine ih (i + 1) (da_zu z i 1) _ set' next1 (by omega) (by omega) (fun j hj => ?_) (fun j hj e1 => ?_) hs' ?_
        · by_cases y : j = i
          · subst y; rw [pk_us, da_zu_s]; exact ⟨rfl, by omega⟩
          · rw [pk_un y, pk_un y, da_zu_n y]; exact hz j (by omega)
        · rcases Nat.lt_or_ge j i with y | y
          · exact keep1 1 j y e1
          · have : j = i := by omega
            subst this
            rintro ⟨s, t, a1, a2⟩
            obtain ⟨st1, st2⟩ := da_sq_st hok _ _ _ a1
            have l1 := da_st_lt hok st1
            have l2 := da_st_lt hok st2
            refine f2 (s * 64 + t) ⟨?_, Or.inr a2⟩
            rw [show (s * 64 + t) / 64 = s by omega, show (s * 64 + t) % 64 = t by omega]
            refine da_sq_c (j + 1) s t (fun x hx => ?_) a1
            by_cases y : x = j
            · subst y; simp only [if_true]; exact da_zu_s.symm
            · simp only [if_neg y]; rw [da_zu_n y, da_zu_n y]
        · obtain ⟨c, hc2, p, hp⟩ := da_sP_next hok hnf hwl q hmin hex hne
          have : c = 0 ∨ c = 1 := by omega
          rcases this with y | y
          · subst y; exact absurd hp (f2 p)
          · subst y; exact ⟨p, hp⟩
theorem yw_spell {N wl : Nat} {post : SY → Prop} (hc : da_cok N ya_word ya_wlen) (hnf : da_nf N (da_L ya_wlen) (da_B ya_word ya_wlen) ya_near ya_life) (hwl : wl ≤ 240) (h1w : 1 ≤ wl) (hmin : ∀ bs, da_ay N (da_L ya_wlen) (da_B ya_word ya_wlen) bs → wl ≤ bs.length) (hex : ∃ bs, da_ay N (da_L ya_wlen) (da_B ya_word ya_wlen) bs ∧ bs.length = wl)
    (h : ∀ bs wit set next, da_ay N (da_L ya_wlen) (da_B ya_word ya_wlen) bs → (∀ z, da_ay N (da_L ya_wlen) (da_B ya_word ya_wlen) z → da_cd 1 bs ≤ da_cd 1 z) → bs.length = wl → (∀ j, j < wl → wit j = nI (bs.getD j 0)) → post (yf_maxWords, yf_maxLength, yf_capacity, nI N, yf_verdict, nI wl, yf_textLen, yf_pos, yf_finished, yf_settledN, yf_opens, ya_word, ya_wlen, ya_delays, wit, ya_text, ya_near, ya_life, set, next, ya_ways, ya_msg, ya_settled)) :
    wpY_spell post (yf_maxWords, yf_maxLength, yf_capacity, nI N, yf_verdict, nI wl, yf_textLen, yf_pos, yf_finished, yf_settledN, yf_opens, ya_word, ya_wlen, ya_delays, ya_wit, ya_text, ya_near, ya_life, ya_set, ya_next, ya_ways, ya_msg, ya_settled) := by
  have main : ∀ f p set, p ≤ 4096 → 4096 - p < f → (∀ x, x < p → set x = 0) → wY_spell_2 post yf_maxWords yf_maxLength yf_capacity (nI N) yf_verdict (nI wl) yf_textLen yf_pos yf_finished yf_settledN yf_opens f (nI p) ya_word ya_wlen ya_delays ya_wit ya_text ya_near ya_life set ya_next ya_ways ya_msg ya_settled := by
    intro f
    induction f with
    | zero => intro p set _ h0; omega
    | succ f ih =>
      intro p set hp hf hs
      have cp : (nI p).toNatClampNeg = p := nI_clamp (by omega)
      refine pk_le 4096 p (fun q => ?_) (fun q => ?_)
      · refine nm_e ⟨wl + 1, yw_sp31 hc hnf hwl h1w hmin hex h (wl + 1) 0 (fun _ => 0) _ _ _ (by omega) (by omega) (fun j hj => by omega) (fun j hj => by omega) (fun x hx => ?_) ⟨0, ⟨rfl, rfl⟩, Or.inl rfl⟩⟩
        by_cases e : x = 0
        · subst e; exact Or.inl ⟨pk_us, ⟨rfl, rfl⟩, Or.inl rfl⟩
        · rw [pk_un e]
          refine Or.inr ⟨hs x (by omega), ?_⟩
          rintro ⟨⟨e1, e2⟩, _⟩
          omega
      · rw [cp]
        refine ⟨vp_in_nI (by omega) (by omega), nm_e (nm_r (nI_1 p) (ih (p + 1) _ (by omega) (by omega) (fun x hx => ?_)))⟩
        by_cases e : x = p
        · subst e; exact pk_us
        · rw [pk_un e]; exact hs x (by omega)
  exact ⟨4097, main 4097 0 ya_set (by omega) (by omega) (fun x hx => by omega)⟩
end
end
section
/-! the reference's analyse -/
def da_yr (N : Nat) (L : Nat → Nat) (B : Nat → Nat → Nat) (vd : Nat) (wl : Int32) (wit : Nat → Int32) (d : Nat → Nat) : Prop :=
  (vd = 1 ∧ ∃ bs, da_ay N L B bs ∧ (∀ z, da_ay N L B z → da_cd 1 bs ≤ da_cd 1 z) ∧ wl = nI bs.length ∧ bs.length ≤ 240 ∧ ∀ j, j < bs.length → wit j = nI (bs.getD j 0)) ∨
  (vd = 2 ∧ (∀ bs, ¬ da_ay N L B bs) ∧ ∃ k, k < N ∧ d k = 1000) ∨ (vd = 3 ∧ (∀ bs, ¬ da_ay N L B bs) ∧ ∀ k, k < N → d k ≠ 1000)
section
variable {yf_maxWords yf_maxLength yf_capacity yf_n yf_verdict yf_witLen yf_textLen yf_pos yf_finished yf_settledN yf_opens : Int32} {ya_word ya_wlen ya_delays ya_wit ya_text ya_near ya_life ya_set ya_next ya_ways ya_msg ya_settled : Nat → Int32}
theorem yw_an82 {N : Nat} {post : Int32 → SY → Prop} (hc : da_cok N ya_word ya_wlen) (hnf : da_nf N (da_L ya_wlen) (da_B ya_word ya_wlen) ya_near ya_life)
    (h : ∀ vd wl wit d delays set next, (∀ k, k < N → delays k = nI (d k) ∧ d k ≤ 1000 ∧ da_dl (da_AY N (da_L ya_wlen) (da_B ya_word ya_wlen) k) (d k)) → da_yr N (da_L ya_wlen) (da_B ya_word ya_wlen) vd wl wit d → post (nI vd) (yf_maxWords, yf_maxLength, yf_capacity, nI N, nI vd, wl, yf_textLen, 0, 0, yf_settledN, yf_opens, ya_word, ya_wlen, delays, wit, ya_text, ya_near, ya_life, set, next, ya_ways, ya_msg, ya_settled)) :
    ∀ f k vd (d : Nat → Nat) delays set next, k ≤ N → N - k < f → (∀ j, j < k → delays j = nI (d j) ∧ d j ≤ 1000 ∧ da_dl (da_AY N (da_L ya_wlen) (da_B ya_word ya_wlen) j) (d j)) → ((vd = 2 ∧ ∃ j, j < k ∧ d j = 1000) ∨ (vd = 3 ∧ ∀ j, j < k → d j ≠ 1000)) →
      wY_analyse_82 post f (nI k) yf_maxWords yf_maxLength yf_capacity (nI N) (nI vd) yf_witLen yf_textLen yf_pos yf_finished yf_settledN yf_opens ya_word ya_wlen delays ya_wit ya_text ya_near ya_life set next ya_ways ya_msg ya_settled := by
  have hok := da_cok_ok hc
  have hN := hc.1
  intro f
  induction f with
  | zero => intro k vd d delays set next _ h0; omega
  | succ f ih =>
    intro k vd d delays set next hk hf hd hv
    refine pk_le N k (fun q => ?_) (fun q => ?_)
    · have : k = N := by omega
      subst this
      refine yw_shortest hc hnf (fun wl hsh => ?_)
      obtain ⟨s1, s2, s3, s4⟩ := hsh
      refine pk_lt 240 wl (fun w => ?_) (fun w => ?_)
      · have none : ∀ bs, ¬ da_ay k (da_L ya_wlen) (da_B ya_word ya_wlen) bs := by
          intro bs hb
          obtain ⟨z, z1, z2⟩ := da_ay232 hok hb
          have := s4 z z1 (by omega)
          omega
        refine h vd _ _ d delays set next hd (Or.inr ?_)
        rcases hv with ⟨v1, v2⟩ | ⟨v1, v2⟩
        · exact Or.inl ⟨v1, none, v2⟩
        · exact Or.inr ⟨v1, none, v2⟩
      · obtain ⟨bs0, b1, b2⟩ := s3 (by omega)
        refine yw_spell hc hnf w s2 (fun bs hb => ?_) ⟨bs0, b1, b2⟩ (fun bs wit set' next' h1 h2 h3 h4 => ?_)
        · rcases Nat.lt_or_ge 241 bs.length with y | y
          · omega
          · exact s4 bs hb y
        · exact h 1 _ wit d delays set' next' hd (Or.inl ⟨rfl, bs, h1, h2, by rw [h3], by omega, fun j hj => h4 j (by omega)⟩)
    · have ck : (nI k).toNatClampNeg = k := nI_clamp (by omega)
      refine yw_delayOf hc q hnf (fun e set' next' he hdl => ?_)
      have ik : vp_in (nI k) 8 := vp_in_nI (by omega) (by omega)
      rw [ck]
      refine ⟨ik, nm_e ⟨ik, ?_⟩⟩
      rw [pk_us]
      have hd' : ∀ j, j < k + 1 → upd delays k (nI e) j = nI (da_zu d k e j) ∧ da_zu d k e j ≤ 1000 ∧ da_dl (da_AY N (da_L ya_wlen) (da_B ya_word ya_wlen) j) (da_zu d k e j) := by
        intro j hj
        by_cases z : j = k
        · subst z; rw [pk_us, da_zu_s]; exact ⟨rfl, he, hdl⟩
        · rw [pk_un z, da_zu_n z]; exact hd j (by omega)
      refine pk_eq e 1000 (fun z => nm_r (nI_1 k) (ih (k + 1) 2 (da_zu d k e) _ set' next' (by omega) (by omega) hd' (Or.inl ⟨rfl, k, by omega, by rw [da_zu_s]; exact z⟩))) (fun z => nm_r (nI_1 k) (ih (k + 1) vd (da_zu d k e) _ set' next' (by omega) (by omega) hd' ?_))
      rcases hv with ⟨v1, j, v2, v3⟩ | ⟨v1, v2⟩
      · exact Or.inl ⟨v1, j, by omega, by rw [da_zu_n (by omega)]; exact v3⟩
      · refine Or.inr ⟨v1, fun j hj => ?_⟩
        by_cases y : j = k
        · subst y; rw [da_zu_s]; exact z
        · rw [da_zu_n y]; exact v2 j (by omega)
theorem yw_an53 {N : Nat} {post : Int32 → SY → Prop} (hc : da_cok N ya_word ya_wlen)
    (h : ∀ vd wl wit d delays near life set next, (∀ k, k < N → delays k = nI (d k) ∧ d k ≤ 1000 ∧ da_dl (da_AY N (da_L ya_wlen) (da_B ya_word ya_wlen) k) (d k)) → da_yr N (da_L ya_wlen) (da_B ya_word ya_wlen) vd wl wit d → post (nI vd) (yf_maxWords, yf_maxLength, yf_capacity, nI N, nI vd, wl, yf_textLen, 0, 0, yf_settledN, yf_opens, ya_word, ya_wlen, delays, wit, ya_text, near, life, set, next, ya_ways, ya_msg, ya_settled)) :
    ∀ f r fl near life Tm, r ≤ 240 → 240 - r < f → Tm ≤ r * 524288 → da_ri N (da_L ya_wlen) (da_B ya_word ya_wlen) r 0 Tm near life → (fl = 1 ∨ (fl = 0 ∧ da_nf N (da_L ya_wlen) (da_B ya_word ya_wlen) near life)) →
      wY_analyse_53 post f fl (nI r) yf_maxWords yf_maxLength yf_capacity (nI N) yf_verdict yf_witLen yf_textLen yf_pos yf_finished yf_settledN yf_opens ya_word ya_wlen ya_delays ya_wit ya_text near life ya_set ya_next ya_ways ya_msg ya_settled := by
  have hok := da_cok_ok hc
  intro f
  induction f with
  | zero => intro r fl near life Tm _ h0; omega
  | succ f ih =>
    intro r fl near life Tm hr hf hT hri hfl
    have fin : da_nf N (da_L ya_wlen) (da_B ya_word ya_wlen) near life → ∃ n82 : Nat, wY_analyse_82 post n82 0 yf_maxWords yf_maxLength yf_capacity (nI N) 3 yf_witLen yf_textLen yf_pos yf_finished yf_settledN yf_opens ya_word ya_wlen ya_delays ya_wit ya_text near life ya_set ya_next ya_ways ya_msg ya_settled := fun hnf =>
      ⟨N + 1, yw_an82 hc hnf (fun vd wl wit d delays set next h1 h2 => h vd wl wit d delays near life set next h1 h2) (N + 1) 0 3 (fun _ => 0) _ _ _ (by omega) (by omega) (fun j hj => by omega) (Or.inr ⟨rfl, fun j hj => by omega⟩)⟩
    refine pk_le 240 r (fun q => ?_) (fun q => ?_)
    · have : r = 240 := by omega
      subst this
      refine fin (fun s t hs ht => ⟨(hri s t hs ht).1.1, da_lo_up (by omega) (hri s t hs ht).1.2⟩)
    · rcases hfl with y | ⟨y1, y2⟩
      · rw [y]
        clear fin
        refine br_f da_10 (yw_relax hc q hT hri (fun fl near life Tm h1 h2 h3 => nm_r (nI_1 r) ?_))
        exact ih (r + 1) fl near life Tm (by omega) (by omega) h1 h2 h3
      · rw [y1]
        exact br_t rfl (fin y2)
theorem yw_an12 {N : Nat} {post : Int32 → SY → Prop} (hc : da_cok N ya_word ya_wlen)
    (h : ∀ vd wl wit d delays near life set next, (∀ k, k < N → delays k = nI (d k) ∧ d k ≤ 1000 ∧ da_dl (da_AY N (da_L ya_wlen) (da_B ya_word ya_wlen) k) (d k)) → da_yr N (da_L ya_wlen) (da_B ya_word ya_wlen) vd wl wit d → post (nI vd) (yf_maxWords, yf_maxLength, yf_capacity, nI N, nI vd, wl, yf_textLen, 0, 0, yf_settledN, yf_opens, ya_word, ya_wlen, delays, wit, ya_text, near, life, set, next, ya_ways, ya_msg, ya_settled)) :
    ∀ f p near life, p ≤ 4096 → 4096 - p < f → (∀ x, x < p → near x = (if x = 0 then nI 0 else nI 9999) ∧ life x = nI 0) →
      wY_analyse_12 post yf_maxWords yf_maxLength yf_capacity (nI N) yf_verdict yf_witLen yf_textLen yf_pos yf_finished yf_settledN yf_opens f (nI p) ya_word ya_wlen ya_delays ya_wit ya_text near life ya_set ya_next ya_ways ya_msg ya_settled := by
  have hok := da_cok_ok hc
  intro f
  induction f with
  | zero => intro p near life _ h0; omega
  | succ f ih =>
    intro p near life hp hf hx
    have cp : (nI p).toNatClampNeg = p := nI_clamp (by omega)
    refine pk_le 4096 p (fun q => ?_) (fun q => ?_)
    · refine ⟨241, yw_an53 hc h 241 0 1 near life 0 (by omega) (by omega) (by omega) (fun s t hs ht => ⟨?_, fun w => by omega⟩) (Or.inl rfl)⟩
      have l1 := da_st_lt hok hs
      have l2 := da_st_lt hok ht
      obtain ⟨x1, x2⟩ := hx (s * 64 + t) (by omega)
      have nl : da_nv life (s * 64 + t) = 0 := by unfold da_nv; rw [x2]; exact nI_clamp (by omega)
      refine ⟨?_, by rw [nl]; exact x2, by rw [nl]; omega, by rw [nl]; exact trivial, fun m hm _ _ => by omega⟩
      by_cases e : s * 64 + t = 0
      · rw [if_pos e] at x1
        have nn : da_nv near (s * 64 + t) = 0 := by unfold da_nv; rw [x1]; exact nI_clamp (by omega)
        refine ⟨by rw [nn]; exact x1, by omega, fun _ => ?_, fun m hm _ => by omega⟩
        rw [nn]
        exact ⟨by omega, by omega⟩
      · rw [if_neg e] at x1
        have nn : da_nv near (s * 64 + t) = 9999 := by unfold da_nv; rw [x1]; exact nI_clamp (by omega)
        refine ⟨by rw [nn]; exact x1, by omega, fun w => by omega, fun m hm w => ?_⟩
        have : m = 0 := by omega
        subst this
        obtain ⟨w1, w2⟩ := w
        omega
    · have i1 : vp_in (nI p) 4096 := vp_in_nI (by omega) (by omega)
      have step : ∀ v, v = (if p = 0 then nI 0 else nI 9999) → wY_analyse_12 post yf_maxWords yf_maxLength yf_capacity (nI N) yf_verdict yf_witLen yf_textLen yf_pos yf_finished yf_settledN yf_opens f (nI (p + 1)) ya_word ya_wlen ya_delays ya_wit ya_text (upd near p v) (upd life p 0) ya_set ya_next ya_ways ya_msg ya_settled := by
        intro v hv
        refine ih (p + 1) _ _ (by omega) (by omega) (fun x hx' => ?_)
        by_cases e : x = p
        · subst e; rw [pk_us, pk_us]; exact ⟨hv, rfl⟩
        · rw [pk_un e, pk_un e]; exact hx x (by omega)
      refine pk_eq p 0 (fun z => ?_) (fun z => ?_)
      · unfold wY_analyse_35
        rw [cp]
        exact ⟨i1, nm_e ⟨i1, nm_e (nm_r (nI_1 p) (step 0 (by rw [if_pos z]; rfl)))⟩⟩
      · unfold wY_analyse_35
        rw [cp]
        exact ⟨i1, nm_e ⟨i1, nm_e (nm_r (nI_1 p) (step 9999 (by rw [if_neg z]; rfl)))⟩⟩
theorem yw_analyse {N : Nat} {post : Int32 → SY → Prop} (hc : da_cok N ya_word ya_wlen) (h0 : N = 0 → post (-5) (yf_maxWords, yf_maxLength, yf_capacity, nI N, yf_verdict, yf_witLen, yf_textLen, yf_pos, yf_finished, yf_settledN, yf_opens, ya_word, ya_wlen, ya_delays, ya_wit, ya_text, ya_near, ya_life, ya_set, ya_next, ya_ways, ya_msg, ya_settled))
    (h : 0 < N → ∀ vd wl wit d delays near life set next, (∀ k, k < N → delays k = nI (d k) ∧ d k ≤ 1000 ∧ da_dl (da_AY N (da_L ya_wlen) (da_B ya_word ya_wlen) k) (d k)) → da_yr N (da_L ya_wlen) (da_B ya_word ya_wlen) vd wl wit d → post (nI vd) (yf_maxWords, yf_maxLength, yf_capacity, nI N, nI vd, wl, yf_textLen, 0, 0, yf_settledN, yf_opens, ya_word, ya_wlen, delays, wit, ya_text, near, life, set, next, ya_ways, ya_msg, ya_settled)) :
    wpY_analyse post (yf_maxWords, yf_maxLength, yf_capacity, nI N, yf_verdict, yf_witLen, yf_textLen, yf_pos, yf_finished, yf_settledN, yf_opens, ya_word, ya_wlen, ya_delays, ya_wit, ya_text, ya_near, ya_life, ya_set, ya_next, ya_ways, ya_msg, ya_settled) := by
  have hN := hc.1
  refine pk_eq N 0 (fun z => h0 z) (fun z => ⟨4097, ?_⟩)
  exact yw_an12 hc (h (by omega)) 4097 0 _ _ (by omega) (by omega) (fun x hx => by omega)
end
end
section
/-! the reference's readings: agrees, fits, countWays, read -/
def da_sc (sr M : Nat) (t : Nat → Nat) (verdict witLen textLen : Int32) (text wit : Nat → Int32) : Prop :=
  (sr = 0 ∧ ∃ T, textLen = nI T ∧ M ≤ T ∧ T ≤ 256 ∧ ∀ x, x < M → text x = nI (t x) ∧ t x < 2) ∨
  (sr = 1 ∧ verdict = 1 ∧ witLen = nI M ∧ M ≤ 240 ∧ ∀ x, x < M → wit x = nI (t x) ∧ t x < 2)
theorem da_sc_le {sr M : Nat} {t : Nat → Nat} {a b c : Int32} {x y : Nat → Int32} (h : da_sc sr M t a b c x y) : M ≤ 256 ∧ sr < 2 := by
  rcases h with ⟨e, T, h1, h2, h3, _⟩ | ⟨e, _, _, h3, _⟩ <;> omega
theorem da_if_min {P : Prop} {x C : Nat} : da_if P (min x C) = min (da_if P x) C := by
  rcases Classical.em P with h | h
  · rw [da_if_t h, da_if_t h]
  · rw [da_if_f h, da_if_f h]; omega
section
variable {yf_maxWords yf_maxLength yf_capacity yf_n yf_verdict yf_witLen yf_textLen yf_pos yf_finished yf_settledN yf_opens : Int32} {ya_word ya_wlen ya_delays ya_wit ya_text ya_near ya_life ya_set ya_next ya_ways ya_msg ya_settled : Nat → Int32}
theorem yw_ag3 {N sr M at_ cnt k : Nat} {t : Nat → Nat} {post : Int32 → Prop} (hc : da_cok N ya_word ya_wlen) (hs : da_sc sr M t yf_verdict yf_witLen yf_textLen ya_text ya_wit) (hk : k < N) (hat : at_ + cnt ≤ M) (hcnt : cnt ≤ da_L ya_wlen k)
    (h1 : (∀ j, j < cnt → t (at_ + j) = da_B ya_word ya_wlen k j) → post 1) (h0 : ¬ (∀ j, j < cnt → t (at_ + j) = da_B ya_word ya_wlen k j) → post 0) :
    ∀ f j, j ≤ cnt → cnt - j < f → (∀ x, x < j → t (at_ + x) = da_B ya_word ya_wlen k x) → wY_agrees_3 post (nI sr) (nI at_) (nI cnt) (nI k) yf_maxWords yf_maxLength yf_capacity (nI N) yf_verdict yf_witLen yf_textLen yf_pos yf_finished yf_settledN yf_opens ya_word ya_wlen ya_delays ya_wit ya_text ya_near ya_life ya_set ya_next ya_ways ya_msg ya_settled f (nI j) := by
  have hok := da_cok_ok hc
  have hL := hok.2.1 k hk
  have hM := da_sc_le hs
  intro f
  induction f with
  | zero => intro j _ h0; omega
  | succ f ih =>
    intro j hj hf hx
    refine pk_le cnt j (fun q => h1 (fun x hx' => hx x (by omega))) (fun q => ?_)
    have tail : ∀ v, t (at_ + j) = v → v < 2 → wY_agrees_32 post (wY_agrees_3 post (nI sr) (nI at_) (nI cnt) (nI k) yf_maxWords yf_maxLength yf_capacity (nI N) yf_verdict yf_witLen yf_textLen yf_pos yf_finished yf_settledN yf_opens ya_word ya_wlen ya_delays ya_wit ya_text ya_near ya_life ya_set ya_next ya_ways ya_msg ya_settled f) (nI sr) (nI at_) (nI cnt) (nI k) (nI j) (nI v) yf_maxWords yf_maxLength yf_capacity (nI N) yf_verdict yf_witLen yf_textLen yf_pos yf_finished yf_settledN yf_opens ya_word ya_wlen ya_delays ya_wit ya_text ya_near ya_life ya_set ya_next ya_ways ya_msg ya_settled := by
      intro v e hv
      have hB := hok.2.2.1 k j
      refine br_f (da_n1 v (by omega)) (yw_bitOf hc hk (by omega) (fun _ => ?_) (fun w => by omega))
      refine pk_eq v (da_B ya_word ya_wlen k j) (fun y => nm_r (nI_1 j) (ih (j + 1) (by omega) (by omega) (fun x hx' => ?_))) (fun y => h0 (fun w => y (e.symm.trans (w j q))))
      rcases Nat.lt_or_ge x j with w | w
      · exact hx x w
      · have : x = j := by omega
        subst this; rw [e]; exact y
    rw [nI_add]
    have cx : (nI (at_ + j)).toNatClampNeg = at_ + j := nI_clamp (by omega)
    rcases hs with ⟨e, T, e1, e2, e3, e4⟩ | ⟨e, e1, e2, e3, e4⟩
    · subst e
      refine br_t rfl (br_f (nI_pos (by omega)) (br_t ?_ (And.intro (vp_in_nI (by omega) (by omega)) ?_)))
      · rw [e1]; exact nI_lt (by omega) (by omega)
      · rw [cx, (e4 (at_ + j) (by omega)).1]
        exact tail _ rfl (e4 (at_ + j) (by omega)).2
    · subst e
      refine br_f da_10 (br_t e1 (br_f (nI_pos (by omega)) (br_t ?_ (And.intro (vp_in_nI (by omega) (by omega)) ?_))))
      · rw [e2]; exact nI_lt (by omega) (by omega)
      · rw [cx, (e4 (at_ + j) (by omega)).1]
        exact tail _ rfl (e4 (at_ + j) (by omega)).2
theorem yw_agrees {N sr M at_ cnt k : Nat} {t : Nat → Nat} {post : Int32 → Prop} (hc : da_cok N ya_word ya_wlen) (hs : da_sc sr M t yf_verdict yf_witLen yf_textLen ya_text ya_wit) (hk : k < N) (hat : at_ + cnt ≤ M) (hcnt : cnt ≤ da_L ya_wlen k)
    (h1 : (∀ j, j < cnt → t (at_ + j) = da_B ya_word ya_wlen k j) → post 1) (h0 : ¬ (∀ j, j < cnt → t (at_ + j) = da_B ya_word ya_wlen k j) → post 0) :
    wpY_agrees post (yf_maxWords, yf_maxLength, yf_capacity, nI N, yf_verdict, yf_witLen, yf_textLen, yf_pos, yf_finished, yf_settledN, yf_opens, ya_word, ya_wlen, ya_delays, ya_wit, ya_text, ya_near, ya_life, ya_set, ya_next, ya_ways, ya_msg, ya_settled) (nI sr) (nI at_) (nI cnt) (nI k) :=
  ⟨cnt + 1, yw_ag3 hc hs hk hat hcnt h1 h0 (cnt + 1) 0 (by omega) (by omega) (fun x hx => by omega)⟩
theorem yw_fits {N sr M at_ e k : Nat} {t : Nat → Nat} {post : Int32 → Prop} (hc : da_cok N ya_word ya_wlen) (hs : da_sc sr M t yf_verdict yf_witLen yf_textLen ya_text ya_wit) (hk : k < N) (hat : at_ ≤ e) (he : e ≤ M)
    (h1 : at_ + da_L ya_wlen k ≤ e → da_m (da_L ya_wlen) (da_B ya_word ya_wlen) t at_ k → post 1) (h0 : ¬ (at_ + da_L ya_wlen k ≤ e ∧ da_m (da_L ya_wlen) (da_B ya_word ya_wlen) t at_ k) → post 0) :
    wpY_fits post (yf_maxWords, yf_maxLength, yf_capacity, nI N, yf_verdict, yf_witLen, yf_textLen, yf_pos, yf_finished, yf_settledN, yf_opens, ya_word, ya_wlen, ya_delays, ya_wit, ya_text, ya_near, ya_life, ya_set, ya_next, ya_ways, ya_msg, ya_settled) (nI sr) (nI at_) (nI e) (nI k) := by
  have hN := hc.1
  have hM := da_sc_le hs
  obtain ⟨e2, l1, l2, _⟩ := da_cok_v hc hk
  have ck : (nI k).toNatClampNeg = k := nI_clamp (by omega)
  have ik : vp_in (nI k) 8 := vp_in_nI (by omega) (by omega)
  refine And.intro ik ?_
  rw [ck, e2, nI_add]
  refine pk_lt e (at_ + da_L ya_wlen k) (fun q => h0 (fun w => by omega)) (fun q => ⟨ik, ?_⟩)
  exact yw_agrees hc hs hk (by omega) (Nat.le_refl _) (fun w => br_f da_10 (h1 q w)) (fun w => br_t rfl (h0 (fun y => w y.2)))
theorem yw_cw21 {N sr M e i : Nat} {t : Nat → Nat} {G : Nat → Nat → Nat} {post : SY → Prop} {J11 : Int32 → (Nat → Int32) → (Nat → Int32) → (Nat → Int32) → (Nat → Int32) → (Nat → Int32) → (Nat → Int32) → (Nat → Int32) → (Nat → Int32) → (Nat → Int32) → (Nat → Int32) → (Nat → Int32) → (Nat → Int32) → Prop} (hc : da_cok N ya_word ya_wlen) (hs : da_sc sr M t yf_verdict yf_witLen yf_textLen ya_text ya_wit) (he : e ≤ M) (hi : i < e) (hG : da_G N (da_L ya_wlen) (da_B ya_word ya_wlen) t G)
    (hw : ∀ x, i < x → x ≤ e → ya_ways x = nI (min (G x (e - x)) 1000000))
    (hJ : J11 (nI i - 1) ya_word ya_wlen ya_delays ya_wit ya_text ya_near ya_life ya_set ya_next (upd ya_ways i (nI (min (G i (e - i)) 1000000))) ya_msg ya_settled) :
    ∀ f k, k ≤ N → N - k < f → wY_countWays_21 post J11 (nI sr) (nI e) (nI i) yf_maxWords yf_maxLength yf_capacity (nI N) yf_verdict yf_witLen yf_textLen yf_pos yf_finished yf_settledN yf_opens ya_word ya_wlen ya_delays ya_wit ya_text ya_near ya_life ya_set ya_next ya_ways ya_msg ya_settled f (nI (da_sm (fun x => min (da_if (da_m (da_L ya_wlen) (da_B ya_word ya_wlen) t i x ∧ da_L ya_wlen x ≤ e - i) (G (i + da_L ya_wlen x) (e - i - da_L ya_wlen x))) 1000000) k)) (nI k) := by
  have hok := da_cok_ok hc
  have hN := hc.1
  have hM := da_sc_le hs
  intro f
  induction f with
  | zero => intro k _ h0; omega
  | succ f ih =>
    intro k hk hf
    have sml : ∀ k, k ≤ N → da_sm (fun x => min (da_if (da_m (da_L ya_wlen) (da_B ya_word ya_wlen) t i x ∧ da_L ya_wlen x ≤ e - i) (G (i + da_L ya_wlen x) (e - i - da_L ya_wlen x))) 1000000) k ≤ 8000000 := by
      intro k hk
      have := da_sm_le (f := fun x => min (da_if (da_m (da_L ya_wlen) (da_B ya_word ya_wlen) t i x ∧ da_L ya_wlen x ≤ e - i) (G (i + da_L ya_wlen x) (e - i - da_L ya_wlen x))) 1000000) (C := 1000000) (n := k) (fun x _ => Nat.min_le_right _ _)
      have : k * 1000000 ≤ 8 * 1000000 := Nat.mul_le_mul_right _ (by omega)
      omega
    have s0 := sml k hk
    have ci : (nI i).toNatClampNeg = i := nI_clamp (by omega)
    have ii : vp_in (nI i) 257 := vp_in_nI (by omega) (by omega)
    refine pk_le N k (fun q => ?_) (fun q => ?_)
    · have : k = N := by omega
      subst this
      have eG : min (G i (e - i)) 1000000 = min (da_sm (fun x => min (da_if (da_m (da_L ya_wlen) (da_B ya_word ya_wlen) t i x ∧ da_L ya_wlen x ≤ e - i) (G (i + da_L ya_wlen x) (e - i - da_L ya_wlen x))) 1000000) k) 1000000 := by
        rw [da_sm_cap, hG i (e - i), da_if_f (by omega), Nat.zero_add]
      rw [ci]
      rw [eG] at hJ
      generalize da_sm (fun x => min (da_if (da_m (da_L ya_wlen) (da_B ya_word ya_wlen) t i x ∧ da_L ya_wlen x ≤ e - i) (G (i + da_L ya_wlen x) (e - i - da_L ya_wlen x))) 1000000) k = sm at *
      refine pk_le sm 1000000 (fun w => ⟨ii, nm_e (nm_r (da_pm i) ?_)⟩) (fun w => ⟨ii, nm_e (nm_r (da_pm i) ?_)⟩)
      · rw [Nat.min_eq_left w] at hJ; exact hJ
      · rw [Nat.min_eq_right (by omega)] at hJ; exact hJ
    · obtain ⟨e2, l1, l2, _⟩ := da_cok_v hc q
      have s1 := sml (k + 1) (by omega)
      refine yw_fits hc hs q (by omega) he (fun w1 w2 => ?_) (fun w => ?_)
      · have ck : (nI k).toNatClampNeg = k := nI_clamp (by omega)
        rw [ck, e2, nI_add, nI_clamp (show i + da_L ya_wlen k < 2 ^ 31 by omega), hw (i + da_L ya_wlen k) (by omega) w1]
        refine br_f da_10 ⟨vp_in_nI (by omega) (by omega), vp_in_nI (by omega) (by omega), nm_r (nI_add _ _) (nm_r (nI_1 k) ?_)⟩
        have := ih (k + 1) (by omega) (by omega)
        rw [show da_sm (fun x => min (da_if (da_m (da_L ya_wlen) (da_B ya_word ya_wlen) t i x ∧ da_L ya_wlen x ≤ e - i) (G (i + da_L ya_wlen x) (e - i - da_L ya_wlen x))) 1000000) (k + 1) = da_sm (fun x => min (da_if (da_m (da_L ya_wlen) (da_B ya_word ya_wlen) t i x ∧ da_L ya_wlen x ≤ e - i) (G (i + da_L ya_wlen x) (e - i - da_L ya_wlen x))) 1000000) k + min (da_if (da_m (da_L ya_wlen) (da_B ya_word ya_wlen) t i k ∧ da_L ya_wlen k ≤ e - i) (G (i + da_L ya_wlen k) (e - i - da_L ya_wlen k))) 1000000 from rfl, da_if_t ⟨w2, by omega⟩, show e - i - da_L ya_wlen k = e - (i + da_L ya_wlen k) by omega] at this
        exact this
      · refine br_t rfl (nm_r (nI_1 k) ?_)
        have := ih (k + 1) (by omega) (by omega)
        rw [show da_sm (fun x => min (da_if (da_m (da_L ya_wlen) (da_B ya_word ya_wlen) t i x ∧ da_L ya_wlen x ≤ e - i) (G (i + da_L ya_wlen x) (e - i - da_L ya_wlen x))) 1000000) (k + 1) = da_sm (fun x => min (da_if (da_m (da_L ya_wlen) (da_B ya_word ya_wlen) t i x ∧ da_L ya_wlen x ≤ e - i) (G (i + da_L ya_wlen x) (e - i - da_L ya_wlen x))) 1000000) k + min (da_if (da_m (da_L ya_wlen) (da_B ya_word ya_wlen) t i k ∧ da_L ya_wlen k ≤ e - i) (G (i + da_L ya_wlen k) (e - i - da_L ya_wlen k))) 1000000 from rfl, da_if_f (fun y => w ⟨by omega, y.1⟩)] at this
        exact this
theorem yw_countWays {N sr M e : Nat} {t : Nat → Nat} {G : Nat → Nat → Nat} {post : SY → Prop} (hc : da_cok N ya_word ya_wlen) (hs : da_sc sr M t yf_verdict yf_witLen yf_textLen ya_text ya_wit) (he : e ≤ M) (hG : da_G N (da_L ya_wlen) (da_B ya_word ya_wlen) t G)
    (h : ∀ ways, (∀ x, x ≤ e → ways x = nI (min (G x (e - x)) 1000000)) → post (yf_maxWords, yf_maxLength, yf_capacity, nI N, yf_verdict, yf_witLen, yf_textLen, yf_pos, yf_finished, yf_settledN, yf_opens, ya_word, ya_wlen, ya_delays, ya_wit, ya_text, ya_near, ya_life, ya_set, ya_next, ways, ya_msg, ya_settled)) :
    wpY_countWays post (yf_maxWords, yf_maxLength, yf_capacity, nI N, yf_verdict, yf_witLen, yf_textLen, yf_pos, yf_finished, yf_settledN, yf_opens, ya_word, ya_wlen, ya_delays, ya_wit, ya_text, ya_near, ya_life, ya_set, ya_next, ya_ways, ya_msg, ya_settled) (nI sr) (nI e) := by
  have hok := da_cok_ok hc
  have hM := da_sc_le hs
  have hN := hc.1
  have ce : (nI e).toNatClampNeg = e := nI_clamp (by omega)
  have main : ∀ f i ways, i ≤ e → i < f → (∀ x, i ≤ x → x ≤ e → ways x = nI (min (G x (e - x)) 1000000)) → wY_countWays_11 post (nI sr) (nI e) yf_maxWords yf_maxLength yf_capacity (nI N) yf_verdict yf_witLen yf_textLen yf_pos yf_finished yf_settledN yf_opens f (nI i - 1) ya_word ya_wlen ya_delays ya_wit ya_text ya_near ya_life ya_set ya_next ways ya_msg ya_settled := by
    intro f
    induction f with
    | zero => intro i ways _ h0; omega
    | succ f ih =>
      intro i ways hi hf hw
      cases i with
      | zero =>
        rw [da_nm1]
        exact br_t da_neg1 (h ways (fun x hx => hw x (by omega) hx))
      | succ i =>
        rw [nI_pred]
        refine br_f (nI_pos (by omega)) ⟨N + 1, ?_⟩
        refine yw_cw21 hc hs he (by omega) hG (fun x h1 h2 => hw x (by omega) h2) ?_ (N + 1) 0 (by omega) (by omega)
        refine ih i _ (by omega) (by omega) (fun x h1 h2 => ?_)
        by_cases y : x = i
        · subst y; exact pk_us
        · rw [pk_un y]; exact hw x (by omega) h2
  refine And.intro (vp_in_nI (by omega) (by omega)) ?_
  rw [ce]
  refine nm_e (nm_e ⟨e + 1, main (e + 1) e _ (Nat.le_refl _) (by omega) (fun x h1 h2 => ?_)⟩)
  have : x = e := by omega
  subst this
  rw [pk_us, hG x (x - x), Nat.sub_self, da_if_t rfl]
  have : da_sm (fun k => da_if (da_m (da_L ya_wlen) (da_B ya_word ya_wlen) t x k ∧ da_L ya_wlen k ≤ 0) (G (x + da_L ya_wlen k) (0 - da_L ya_wlen k))) N = 0 := by
    rw [da_sm_eq (g := fun _ => 0) (fun k hk => da_if_f (fun w => by have := hok.2.1 k hk; omega)), da_sm_0]
  rw [this]
  rfl
theorem yw_rd35 {N sr M e at_ m wh : Nat} {t : Nat → Nat} {post : Int32 → SY → Prop} {J15 : Int32 → Int32 → (Nat → Int32) → (Nat → Int32) → (Nat → Int32) → (Nat → Int32) → (Nat → Int32) → (Nat → Int32) → (Nat → Int32) → (Nat → Int32) → (Nat → Int32) → (Nat → Int32) → (Nat → Int32) → (Nat → Int32) → Prop} (hc : da_cok N ya_word ya_wlen) (hs : da_sc sr M t yf_verdict yf_witLen yf_textLen ya_text ya_wit) (he : e ≤ M) (hat : at_ < e) (hm : m ≤ at_) (hwh : wh < 2)
    (hw : ∀ x, x ≤ e → ∃ v, ya_ways x = nI v ∧ v ≤ 1000000 ∧ (0 < v ↔ da_rb N (da_L ya_wlen) (da_B ya_word ya_wlen) t x e))
    (h1 : ∀ k, da_pk (da_ft N (da_L ya_wlen) (da_B ya_word ya_wlen) t e at_) N wh k → J15 (nI (at_ + da_L ya_wlen k)) (nI (m + 1)) ya_word ya_wlen ya_delays ya_wit ya_text ya_near ya_life ya_set ya_next ya_ways (upd ya_msg m (nI k)) ya_settled) (h0 : (∀ k, k < N → ¬ da_ft N (da_L ya_wlen) (da_B ya_word ya_wlen) t e at_ k) → post (-1) (yf_maxWords, yf_maxLength, yf_capacity, nI N, yf_verdict, yf_witLen, yf_textLen, yf_pos, yf_finished, yf_settledN, yf_opens, ya_word, ya_wlen, ya_delays, ya_wit, ya_text, ya_near, ya_life, ya_set, ya_next, ya_ways, ya_msg, ya_settled)) :
    ∀ f k p, k ≤ N → N - k < f → ((p = -1 ∧ ∀ x, x < k → ¬ da_ft N (da_L ya_wlen) (da_B ya_word ya_wlen) t e at_ x) ∨ (∃ x, x < k ∧ p = nI x ∧ da_ft N (da_L ya_wlen) (da_B ya_word ya_wlen) t e at_ x ∧ ∀ x', x' < k → da_ft N (da_L ya_wlen) (da_B ya_word ya_wlen) t e at_ x' → (wh = 0 → x ≤ x') ∧ (wh ≠ 0 → x' ≤ x))) →
      wY_read_35 post J15 (nI sr) (nI e) (nI wh) (nI at_) (nI m) yf_maxWords yf_maxLength yf_capacity (nI N) yf_verdict yf_witLen yf_textLen yf_pos yf_finished yf_settledN yf_opens ya_word ya_wlen ya_delays ya_wit ya_text ya_near ya_life ya_set ya_next ya_ways ya_msg ya_settled f p (nI k) := by
  have hok := da_cok_ok hc
  have hN := hc.1
  have hM := da_sc_le hs
  intro f
  induction f with
  | zero => intro k p _ h0; omega
  | succ f ih =>
    intro k p hk hf hp
    refine pk_le N k (fun q => ?_) (fun q => ?_)
    · have : k = N := by omega
      subst this
      rcases hp with ⟨p1, p2⟩ | ⟨x, p2, p3, p4, p5⟩
      · rw [p1]; exact br_f (by decide) (h0 p2)
      · rw [p3]
        obtain ⟨e2, l1, l2, _⟩ := da_cok_v hc p2
        have cx : (nI x).toNatClampNeg = x := nI_clamp (by omega)
        have cm : (nI m).toNatClampNeg = m := nI_clamp (by omega)
        rw [cx, cm, e2]
        refine br_t (nI_pos' (by omega)) ⟨vp_in_nI (by omega) (by omega), nm_e ⟨vp_in_nI (by omega) (by omega), nm_r (nI_add _ _) (nm_r (nI_1 m) ?_)⟩⟩
        exact h1 x ⟨p2, p4, p5⟩
    · obtain ⟨e2, l1, l2, _⟩ := da_cok_v hc q
      have skip : ¬ da_ft N (da_L ya_wlen) (da_B ya_word ya_wlen) t e at_ k → wY_read_35 post J15 (nI sr) (nI e) (nI wh) (nI at_) (nI m) yf_maxWords yf_maxLength yf_capacity (nI N) yf_verdict yf_witLen yf_textLen yf_pos yf_finished yf_settledN yf_opens ya_word ya_wlen ya_delays ya_wit ya_text ya_near ya_life ya_set ya_next ya_ways ya_msg ya_settled f p (nI (k + 1)) := by
        intro hno
        refine ih (k + 1) p (by omega) (by omega) ?_
        rcases hp with ⟨p1, p2⟩ | ⟨x, p2, p3, p4, p5⟩
        · refine Or.inl ⟨p1, fun x hx => ?_⟩
          rcases Nat.lt_or_ge x k with y | y
          · exact p2 x y
          · have : x = k := by omega
            subst this; exact hno
        · refine Or.inr ⟨x, by omega, p3, p4, fun x' hx' hf' => ?_⟩
          rcases Nat.lt_or_ge x' k with y | y
          · exact p5 x' y hf'
          · have : x' = k := by omega
            subst this; exact absurd hf' hno
      refine yw_fits hc hs q (by omega) he (fun w1 w2 => ?_) (fun w => br_t rfl (nm_r (nI_1 k) (skip (fun y => w ⟨y.1, y.2.1⟩))))
      have ck : (nI k).toNatClampNeg = k := nI_clamp (by omega)
      obtain ⟨v, v1, v2, v3⟩ := hw (at_ + da_L ya_wlen k) w1
      rw [ck, e2, nI_add, nI_clamp (show at_ + da_L ya_wlen k < 2 ^ 31 by omega), v1]
      refine br_f da_10 ⟨vp_in_nI (by omega) (by omega), vp_in_nI (by omega) (by omega), pk_le v 0 (fun y => nm_r (nI_1 k) (skip (fun z => by have := v3.mpr z.2.2; omega))) (fun y => ?_)⟩
      have hft : da_ft N (da_L ya_wlen) (da_B ya_word ya_wlen) t e at_ k := ⟨w1, w2, v3.mp y⟩
      rcases hp with ⟨p1, p2⟩ | ⟨x, p2, p3, p4, p5⟩
      · rw [p1]
        refine br_t da_neg1 (nm_r (nI_1 k) (ih (k + 1) (nI k) (by omega) (by omega) (Or.inr ⟨k, by omega, rfl, hft, fun x' hx' hf' => ?_⟩)))
        rcases Nat.lt_or_ge x' k with y' | y'
        · exact absurd hf' (p2 x' y')
        · exact ⟨fun _ => y', fun _ => by omega⟩
      · rw [p3]
        refine br_f (nI_pos (by omega)) (pk_eq wh 0 (fun z => nm_r (nI_1 k) ?_) (fun z => nm_r (nI_1 k) ?_))
        · have := ih (k + 1) (nI x) (by omega) (by omega) (Or.inr ⟨x, by omega, rfl, p4, fun x' hx' hf' => ?_⟩)
          · exact this
          · rcases Nat.lt_or_ge x' k with y' | y'
            · exact p5 x' y' hf'
            · exact ⟨fun _ => by omega, fun w => absurd z w⟩
        · exact ih (k + 1) (nI k) (by omega) (by omega) (Or.inr ⟨k, by omega, rfl, hft, fun x' hx' hf' => ⟨fun w => absurd w z, fun _ => by omega⟩⟩)
theorem yw_rd15 {N sr M e wh : Nat} {t : Nat → Nat} {post : Int32 → SY → Prop} (hc : da_cok N ya_word ya_wlen) (hs : da_sc sr M t yf_verdict yf_witLen yf_textLen ya_text ya_wit) (he : e ≤ M) (hwh : wh < 2)
    (hw : ∀ x, x ≤ e → ∃ v, ya_ways x = nI v ∧ v ≤ 1000000 ∧ (0 < v ↔ da_rb N (da_L ya_wlen) (da_B ya_word ya_wlen) t x e))
    (h1 : ∀ l msg, da_gr N (da_L ya_wlen) (da_B ya_word ya_wlen) t e wh 0 l → l.length ≤ e → (∀ j, j < l.length → msg j = nI (l.getD j 0)) → post (nI l.length) (yf_maxWords, yf_maxLength, yf_capacity, nI N, yf_verdict, yf_witLen, yf_textLen, yf_pos, yf_finished, yf_settledN, yf_opens, ya_word, ya_wlen, ya_delays, ya_wit, ya_text, ya_near, ya_life, ya_set, ya_next, ya_ways, msg, ya_settled)) (h0 : ∀ msg, ¬ da_rb N (da_L ya_wlen) (da_B ya_word ya_wlen) t 0 e → post (-1) (yf_maxWords, yf_maxLength, yf_capacity, nI N, yf_verdict, yf_witLen, yf_textLen, yf_pos, yf_finished, yf_settledN, yf_opens, ya_word, ya_wlen, ya_delays, ya_wit, ya_text, ya_near, ya_life, ya_set, ya_next, ya_ways, msg, ya_settled)) :
    ∀ f at_ (pre : List Nat) msg, at_ ≤ e → e - at_ < f → pre.length ≤ at_ → (∀ j, j < pre.length → msg j = nI (pre.getD j 0)) → (∀ l, da_gr N (da_L ya_wlen) (da_B ya_word ya_wlen) t e wh at_ l → da_gr N (da_L ya_wlen) (da_B ya_word ya_wlen) t e wh 0 (pre ++ l)) → (da_rb N (da_L ya_wlen) (da_B ya_word ya_wlen) t at_ e ∨ (pre = [] ∧ at_ = 0)) →
      wY_read_15 post (nI sr) (nI e) (nI wh) yf_maxWords yf_maxLength yf_capacity (nI N) yf_verdict yf_witLen yf_textLen yf_pos yf_finished yf_settledN yf_opens f (nI at_) (nI pre.length) ya_word ya_wlen ya_delays ya_wit ya_text ya_near ya_life ya_set ya_next ya_ways msg ya_settled := by
  have hok := da_cok_ok hc
  have hN := hc.1
  have hM := da_sc_le hs
  intro f
  induction f with
  | zero => intro at_ pre msg _ h0; omega
  | succ f ih =>
    intro at_ pre msg hat hf hpl hmsg hg hrb
    have fin : at_ = e → post (nI pre.length) (yf_maxWords, yf_maxLength, yf_capacity, nI N, yf_verdict, yf_witLen, yf_textLen, yf_pos, yf_finished, yf_settledN, yf_opens, ya_word, ya_wlen, ya_delays, ya_wit, ya_text, ya_near, ya_life, ya_set, ya_next, ya_ways, msg, ya_settled) := by
      intro e1
      have := hg [] e1
      rw [List.append_nil] at this
      exact h1 pre msg this (by omega) hmsg
    refine pk_le 256 pre.length (fun q => fin (by omega)) (fun q => ?_)
    refine pk_le e at_ (fun q => fin (by omega)) (fun q => ⟨N + 1, ?_⟩)
    clear fin
    refine yw_rd35 hc hs he q hpl hwh hw (fun k hk => ?_) (fun hk => ?_) (N + 1) 0 (-1) (by omega) (by omega) (Or.inl ⟨rfl, fun x hx => by omega⟩)
    · have hfit := hk.2.1
      have hL := hok.2.1 k hk.1
      have := ih (at_ + da_L ya_wlen k) (pre ++ [k]) (upd msg pre.length (nI k)) hfit.1 (by omega) (by rw [List.length_append]; simp; omega) (fun j hj => ?_) (fun l hl => ?_) (Or.inl hfit.2.2)
      · rw [List.length_append] at this
        exact this
      · rw [List.length_append] at hj
        simp at hj
        rcases Nat.lt_or_ge j pre.length with y | y
        · rw [pk_un (by omega), da_getD_l y]; exact hmsg j y
        · have : j = pre.length := by omega
          subst this
          rw [pk_us, da_getD_e]
      · rw [List.append_assoc]
        exact hg (k :: l) ⟨hk, hl⟩
    · refine h0 msg ?_
      have nr : ¬ da_rb N (da_L ya_wlen) (da_B ya_word ya_wlen) t at_ e := by
        intro w
        obtain ⟨k, a, b⟩ := (da_rb_step hok (by omega)).mp w
        exact hk k a b
      rcases hrb with w | ⟨_, w⟩
      · exact absurd w nr
      · subst w; exact nr
theorem yw_read {N sr M e wh : Nat} {t : Nat → Nat} {post : Int32 → SY → Prop} (hc : da_cok N ya_word ya_wlen) (hs : da_sc sr M t yf_verdict yf_witLen yf_textLen ya_text ya_wit) (he : e ≤ M) (hwh : wh < 2)
    (h1 : ∀ l ways msg, da_gr N (da_L ya_wlen) (da_B ya_word ya_wlen) t e wh 0 l → l.length ≤ e → (∀ j, j < l.length → msg j = nI (l.getD j 0)) → post (nI l.length) (yf_maxWords, yf_maxLength, yf_capacity, nI N, yf_verdict, yf_witLen, yf_textLen, yf_pos, yf_finished, yf_settledN, yf_opens, ya_word, ya_wlen, ya_delays, ya_wit, ya_text, ya_near, ya_life, ya_set, ya_next, ways, msg, ya_settled)) (h0 : ∀ ways msg, ¬ da_rb N (da_L ya_wlen) (da_B ya_word ya_wlen) t 0 e → post (-1) (yf_maxWords, yf_maxLength, yf_capacity, nI N, yf_verdict, yf_witLen, yf_textLen, yf_pos, yf_finished, yf_settledN, yf_opens, ya_word, ya_wlen, ya_delays, ya_wit, ya_text, ya_near, ya_life, ya_set, ya_next, ways, msg, ya_settled)) :
    wpY_read post (yf_maxWords, yf_maxLength, yf_capacity, nI N, yf_verdict, yf_witLen, yf_textLen, yf_pos, yf_finished, yf_settledN, yf_opens, ya_word, ya_wlen, ya_delays, ya_wit, ya_text, ya_near, ya_life, ya_set, ya_next, ya_ways, ya_msg, ya_settled) (nI sr) (nI e) (nI wh) := by
  have hok := da_cok_ok hc
  obtain ⟨G, hG⟩ := da_G_ex (t := t) hok
  unfold wpY_read
  refine yw_countWays hc hs he hG (fun ways hw => ⟨e + 1, ?_⟩)
  refine yw_rd15 hc hs he hwh (fun x hx => ⟨_, hw x hx, Nat.min_le_right _ _, ?_⟩) (fun l msg a b c => h1 l ways msg a b c) (fun msg a => h0 ways msg a) (e + 1) 0 [] _ (by omega) (by omega) (by simp) (fun j hj => by simp at hj) (fun l hl => hl) (Or.inr ⟨rfl, rfl⟩)
  have := da_G_pos hok hG (e - x) (e - x) x (Nat.le_refl _)
  rw [show x + (e - x) = e by omega] at this
  unfold da_rb
  rw [← this]
  omega
end
end
section
/-! longest common prefixes; open readings; the reference's settle -/
def da_lp : List Nat → List Nat → List Nat
  | a :: l, b :: l' => if a = b then a :: da_lp l l' else []
  | _, _ => []
theorem da_lp_n (l : List Nat) : da_lp [] l = [] := by cases l <;> rfl
theorem da_lp_n' (l : List Nat) : da_lp l [] = [] := by cases l <;> rfl
theorem da_lp_c {a : Nat} {l l' : List Nat} : da_lp (a :: l) (a :: l') = a :: da_lp l l' := if_pos rfl
theorem da_lp_f {a b : Nat} {l l' : List Nat} (h : a ≠ b) : da_lp (a :: l) (b :: l') = [] := if_neg h
theorem da_lp_l : ∀ (l l' : List Nat), da_lp l l' <+: l
  | [], l' => by rw [da_lp_n]; exact List.nil_prefix
  | a :: l, [] => by rw [da_lp_n']; exact List.nil_prefix
  | a :: l, b :: l' => by
    by_cases e : a = b
    · subst e; rw [da_lp_c]; exact List.cons_prefix_cons.mpr ⟨rfl, da_lp_l l l'⟩
    · rw [da_lp_f e]; exact List.nil_prefix
theorem da_lp_r : ∀ (l l' : List Nat), da_lp l l' <+: l'
  | [], l' => by rw [da_lp_n]; exact List.nil_prefix
  | a :: l, [] => by rw [da_lp_n']; exact List.nil_prefix
  | a :: l, b :: l' => by
    by_cases e : a = b
    · subst e; rw [da_lp_c]; exact List.cons_prefix_cons.mpr ⟨rfl, da_lp_r l l'⟩
    · rw [da_lp_f e]; exact List.nil_prefix
theorem da_lp_g : ∀ (S l l' : List Nat), S <+: l → S <+: l' → S <+: da_lp l l'
  | [], _, _, _, _ => List.nil_prefix
  | c :: S, [], l', h, _ => absurd (List.prefix_nil.mp h) (by simp)
  | c :: S, a :: l, [], _, h => absurd (List.prefix_nil.mp h) (by simp)
  | c :: S, a :: l, b :: l', h1, h2 => by
    obtain ⟨e1, p1⟩ := List.cons_prefix_cons.mp h1
    obtain ⟨e2, p2⟩ := List.cons_prefix_cons.mp h2
    subst e1; subst e2
    rw [da_lp_c]
    exact List.cons_prefix_cons.mpr ⟨rfl, da_lp_g S l l' p1 p2⟩
theorem da_lp_take : ∀ (S l : List Nat) (n : Nat), n ≤ S.length → n ≤ l.length → (∀ j, j < n → S.getD j 0 = l.getD j 0) → (n = S.length ∨ n = l.length ∨ S.getD n 0 ≠ l.getD n 0) → da_lp S l = S.take n
  | [], l, n, h1, _, _, _ => by rw [da_lp_n]; simp
  | a :: S, [], n, _, h2, _, _ => by
    have : n = 0 := by simpa using h2
    subst this; rfl
  | a :: S, b :: l, 0, _, _, _, h => by
    rcases h with h | h | h
    · simp at h
    · simp at h
    · rw [da_lp_f (by simpa using h)]; rfl
  | a :: S, b :: l, n + 1, h1, h2, h3, h4 => by
    have e : a = b := by simpa using h3 0 (by omega)
    subst e
    rw [da_lp_c, List.take_succ_cons]
    rw [da_lp_take S l n (by simpa using h1) (by simpa using h2) (fun j hj => by simpa using h3 (j + 1) (by omega)) (by simpa using h4)]
def da_lc (Ls : List Nat → Prop) (S : List Nat) : Prop := (∀ l, Ls l → S <+: l) ∧ ∀ S', (∀ l, Ls l → S' <+: l) → S' <+: S
theorem da_pfx_anti {a b : List Nat} (h1 : a <+: b) (h2 : b <+: a) : a = b := h1.eq_of_length (Nat.le_antisymm h1.length_le h2.length_le)
theorem da_lc_u {Ls : List Nat → Prop} {S S' : List Nat} (h : da_lc Ls S) (h' : da_lc Ls S') : S = S' := da_pfx_anti (h'.2 S h.1) (h.2 S' h'.1)
theorem da_lc_c {Ls Ls' : List Nat → Prop} (e : ∀ l, Ls l ↔ Ls' l) {S : List Nat} (h : da_lc Ls S) : da_lc Ls' S := ⟨fun l hl => h.1 l ((e l).mpr hl), fun S' hs => h.2 S' (fun l hl => hs l ((e l).mp hl))⟩
theorem da_lc_1 {Ls : List Nat → Prop} {l0 : List Nat} (e : ∀ l, Ls l ↔ l = l0) : da_lc Ls l0 := ⟨fun l hl => by rw [(e l).mp hl]; exact List.prefix_refl _, fun S' hs => hs l0 ((e l0).mpr rfl)⟩
theorem da_lc_add {Ls Ls' : List Nat → Prop} {S l0 : List Nat} (h : da_lc Ls S) (e : ∀ l, Ls' l ↔ Ls l ∨ l = l0) : da_lc Ls' (da_lp S l0) := by
  refine ⟨fun l hl => ?_, fun S' hs => ?_⟩
  · rcases (e l).mp hl with q | q
    · exact (da_lp_l S l0).trans (h.1 l q)
    · rw [q]; exact da_lp_r S l0
  · exact da_lp_g S' S l0 (h.2 S' (fun l hl => hs l ((e l).mpr (Or.inl hl)))) (hs l0 ((e l0).mpr (Or.inr rfl)))
/-- is the rest from i to e empty or a proper prefix of a word -/
def da_op (N : Nat) (L : Nat → Nat) (B : Nat → Nat → Nat) (t : Nat → Nat) (i e : Nat) : Prop := i = e ∨ ∃ k, k < N ∧ e - i < L k ∧ ∀ j, j < e - i → t (i + j) = B k j
def da_oi (N : Nat) (L : Nat → Nat) (B : Nat → Nat → Nat) (t : Nat → Nat) (fin e i : Nat) : Prop := (fin ≠ 0 → i = e) ∧ da_op N L B t i e ∧ da_rb N L B t 0 i
def da_ol (N : Nat) (L : Nat → Nat) (B : Nat → Nat → Nat) (t : Nat → Nat) (fin e m : Nat) (l : List Nat) : Prop := ∃ i, i < m ∧ (fin ≠ 0 → i = e) ∧ da_op N L B t i e ∧ da_gr N L B t i 0 0 l
section
variable {yf_maxWords yf_maxLength yf_capacity yf_n yf_verdict yf_witLen yf_textLen yf_pos yf_finished yf_settledN yf_opens : Int32} {ya_word ya_wlen ya_delays ya_wit ya_text ya_near ya_life ya_set ya_next ya_ways ya_msg ya_settled : Nat → Int32}
theorem yw_open {N T i e : Nat} {t : Nat → Nat} {post : Int32 → Prop} (hc : da_cok N ya_word ya_wlen) (hs : da_sc 0 T t yf_verdict yf_witLen yf_textLen ya_text ya_wit) (hi : i ≤ e) (he : e ≤ T)
    (h1 : da_op N (da_L ya_wlen) (da_B ya_word ya_wlen) t i e → post 1) (h0 : ¬ da_op N (da_L ya_wlen) (da_B ya_word ya_wlen) t i e → post 0) : wpY_open post (yf_maxWords, yf_maxLength, yf_capacity, nI N, yf_verdict, yf_witLen, yf_textLen, yf_pos, yf_finished, yf_settledN, yf_opens, ya_word, ya_wlen, ya_delays, ya_wit, ya_text, ya_near, ya_life, ya_set, ya_next, ya_ways, ya_msg, ya_settled) (nI i) (nI e) := by
  have hN := hc.1
  have hM := da_sc_le hs
  refine pk_eq i e (fun z => h1 (Or.inl z)) (fun z => ⟨N + 1, ?_⟩)
  have main : ∀ f k, k ≤ N → N - k < f → (∀ x, x < k → ¬ (e - i < da_L ya_wlen x ∧ ∀ j, j < e - i → t (i + j) = da_B ya_word ya_wlen x j)) → wY_open_9 post (nI i) (nI e) yf_maxWords yf_maxLength yf_capacity (nI N) yf_verdict yf_witLen yf_textLen yf_pos yf_finished yf_settledN yf_opens ya_word ya_wlen ya_delays ya_wit ya_text ya_near ya_life ya_set ya_next ya_ways ya_msg ya_settled f (nI k) := by
    intro f
    induction f with
    | zero => intro k _ h0; omega
    | succ f ih =>
      intro k hk hf hx
      refine pk_le N k (fun q => h0 ?_) (fun q => ?_)
      · rintro (w | ⟨x, w1, w2, w3⟩)
        · exact z w
        · exact hx x (by omega) ⟨w2, w3⟩
      · obtain ⟨e2, l1, l2, _⟩ := da_cok_v hc q
        have ck : (nI k).toNatClampNeg = k := nI_clamp (by omega)
        have next : ¬ (e - i < da_L ya_wlen k ∧ ∀ j, j < e - i → t (i + j) = da_B ya_word ya_wlen k j) → wY_open_9 post (nI i) (nI e) yf_maxWords yf_maxLength yf_capacity (nI N) yf_verdict yf_witLen yf_textLen yf_pos yf_finished yf_settledN yf_opens ya_word ya_wlen ya_delays ya_wit ya_text ya_near ya_life ya_set ya_next ya_ways ya_msg ya_settled f (nI (k + 1)) := by
          intro hno
          refine ih (k + 1) (by omega) (by omega) (fun x hx' => ?_)
          rcases Nat.lt_or_ge x k with y | y
          · exact hx x y
          · have : x = k := by omega
            subst this; exact hno
        rw [ck, e2, pk_sub hi]
        refine ⟨vp_in_nI (by omega) (by omega), pk_le (da_L ya_wlen k) (e - i) (fun w => nm_r (nI_1 k) (next (fun y => by omega))) (fun w => ?_)⟩
        refine yw_agrees (sr := 0) hc hs q (by omega) (by omega) (fun y => br_f da_10 (h1 (Or.inr ⟨k, q, w, y⟩))) (fun y => br_t rfl (nm_r (nI_1 k) (next (fun v => y v.2))))
  exact main (N + 1) 0 (by omega) (by omega) (fun x hx => by omega)
/-- the first open reading is copied -/
theorem yw_se70a {N e i : Nat} {l : List Nat} {post : SY → Prop} {J23 : Int32 → Int32 → Int32 → Int32 → Int32 → Int32 → Int32 → Int32 → Int32 → Int32 → Int32 → Int32 → (Nat → Int32) → (Nat → Int32) → (Nat → Int32) → (Nat → Int32) → (Nat → Int32) → (Nat → Int32) → (Nat → Int32) → (Nat → Int32) → (Nat → Int32) → (Nat → Int32) → (Nat → Int32) → (Nat → Int32) → Prop} (hl : l.length ≤ 256) (hm : ∀ j, j < l.length → ya_msg j = nI (l.getD j 0))
    (hJ : ∀ settled, (∀ j, j < l.length → settled j = nI (l.getD j 0)) → J23 (nI (i + 1)) yf_maxWords yf_maxLength yf_capacity (nI N) yf_verdict yf_witLen yf_textLen yf_pos yf_finished (nI l.length) 1 ya_word ya_wlen ya_delays ya_wit ya_text ya_near ya_life ya_set ya_next ya_ways ya_msg settled) :
    ∀ f j settled, j ≤ l.length → l.length - j < f → (∀ x, x < j → settled x = nI (l.getD x 0)) → wY_settle_70 post J23 (nI e) (nI i) (nI l.length) yf_maxWords yf_maxLength yf_capacity (nI N) yf_verdict yf_witLen yf_textLen yf_pos yf_finished 0 f (nI j) (nI l.length) ya_word ya_wlen ya_delays ya_wit ya_text ya_near ya_life ya_set ya_next ya_ways ya_msg settled := by
  intro f
  induction f with
  | zero => intro j settled _ h0; omega
  | succ f ih =>
    intro j settled hj hf hs
    have cj : (nI j).toNatClampNeg = j := nI_clamp (by omega)
    refine pk_le l.length j (fun q => ?_) (fun q => ?_)
    · exact nm_r (nI_1 0) (nm_r (nI_1 i) (hJ settled (fun x hx => hs x (by omega))))
    · rw [cj, hm j q]
      have i1 : vp_in (nI j) 257 := vp_in_nI (by omega) (by omega)
      refine br_t rfl ⟨i1, i1, nm_e (nm_r (nI_1 j) (ih (j + 1) _ (by omega) (by omega) (fun x hx => ?_)))⟩
      by_cases y : x = j
      · subst y; exact pk_us
      · rw [pk_un y]; exact hs x (by omega)
/-- a further one cuts the common part -/
theorem yw_se70b {N e i c : Nat} {l S : List Nat} {post : SY → Prop} {J23 : Int32 → Int32 → Int32 → Int32 → Int32 → Int32 → Int32 → Int32 → Int32 → Int32 → Int32 → Int32 → (Nat → Int32) → (Nat → Int32) → (Nat → Int32) → (Nat → Int32) → (Nat → Int32) → (Nat → Int32) → (Nat → Int32) → (Nat → Int32) → (Nat → Int32) → (Nat → Int32) → (Nat → Int32) → (Nat → Int32) → Prop} (hc1 : 1 ≤ c) (hc2 : c ≤ 256) (hl : l.length ≤ 256) (hS : S.length ≤ 256) (hm : ∀ j, j < l.length → ya_msg j = nI (l.getD j 0)) (hs : ∀ j, j < S.length → ya_settled j = nI (S.getD j 0)) (hb : ∀ x, x ∈ S → x < 2 ^ 31) (hb' : ∀ x, x ∈ l → x < 2 ^ 31)
    (hJ : J23 (nI (i + 1)) yf_maxWords yf_maxLength yf_capacity (nI N) yf_verdict yf_witLen yf_textLen yf_pos yf_finished (nI (da_lp S l).length) (nI (c + 1)) ya_word ya_wlen ya_delays ya_wit ya_text ya_near ya_life ya_set ya_next ya_ways ya_msg ya_settled) :
    ∀ f j, j ≤ S.length → S.length - j < f → j ≤ l.length → (∀ x, x < j → S.getD x 0 = l.getD x 0) → wY_settle_70 post J23 (nI e) (nI i) (nI l.length) yf_maxWords yf_maxLength yf_capacity (nI N) yf_verdict yf_witLen yf_textLen yf_pos yf_finished (nI c) (f + 1) (nI j) (nI S.length) ya_word ya_wlen ya_delays ya_wit ya_text ya_near ya_life ya_set ya_next ya_ways ya_msg ya_settled := by
  intro f
  induction f with
  | zero => intro j _ h0; omega
  | succ f ih =>
    intro j hj hf hjl he
    have cj : (nI j).toNatClampNeg = j := nI_clamp (by omega)
    have gd : ∀ {l : List Nat} {x : Nat}, (∀ y, y ∈ l → y < 2 ^ 31) → l.getD x 0 < 2 ^ 31 := by
      intro l x h
      rw [List.getD_eq_getElem?_getD]
      rcases Nat.lt_or_ge x l.length with y | y
      · rw [List.getElem?_eq_getElem y]; exact h _ (List.getElem_mem y)
      · rw [List.getElem?_eq_none y]; simp
    have cut : (j = S.length ∨ j = l.length ∨ S.getD j 0 ≠ l.getD j 0) → (da_lp S l).length = j := by
      intro w
      rw [da_lp_take S l j hj hjl he w, List.length_take]; omega
    refine pk_le S.length j (fun q => ?_) (fun q => ?_)
    · rw [cut (Or.inl (by omega)), show j = S.length by omega] at hJ
      exact nm_r (nI_1 c) (nm_r (nI_1 i) hJ)
    · refine br_f (nI_ne0 (by omega) (by omega)) ?_
      have stop : (j = l.length ∨ S.getD j 0 ≠ l.getD j 0) → wY_settle_70 post J23 (nI e) (nI i) (nI l.length) yf_maxWords yf_maxLength yf_capacity (nI N) yf_verdict yf_witLen yf_textLen yf_pos yf_finished (nI c) (f + 1) (nI (j + 1)) (nI j) ya_word ya_wlen ya_delays ya_wit ya_text ya_near ya_life ya_set ya_next ya_ways ya_msg ya_settled := by
        intro w
        rw [cut (Or.inr w)] at hJ
        exact br_t (nI_le (by omega) (by omega)) (nm_r (nI_1 c) (nm_r (nI_1 i) hJ))
      refine pk_le l.length j (fun w => nm_r (nI_1 j) (stop (Or.inl (by omega)))) (fun w => ?_)
      rw [cj, hs j q, hm j w]
      have i1 : vp_in (nI j) 257 := vp_in_nI (by omega) (by omega)
      refine ⟨i1, i1, pk_eq (S.getD j 0) (l.getD j 0) (fun y => nm_r (nI_1 j) (ih (j + 1) (by omega) (by omega) (by omega) (fun x hx => ?_))) (fun y => nm_r (nI_1 j) (stop (Or.inr y))) rfl rfl (gd hb) (gd hb')⟩
      rcases Nat.lt_or_ge x j with v | v
      · exact he x v
      · have : x = j := by omega
        subst this; exact y
theorem da_rd_m {N : Nat} {L : Nat → Nat} {B : Nat → Nat → Nat} {t : Nat → Nat} : ∀ (l : List Nat) (i e : Nat), da_rd N L B t i l e → ∀ x, x ∈ l → x < N
  | [], _, _, _, x, h => by simp at h
  | k :: l, i, e, ⟨h1, _, h3⟩, x, h => by
    rcases List.mem_cons.mp h with q | q
    · rw [q]; exact h1
    · exact da_rd_m l _ e h3 x q
theorem yw_se23 {N T e fin : Nat} {t : Nat → Nat} {post : SY → Prop} (hc : da_cok N ya_word ya_wlen) (hs : da_sc 0 T t yf_verdict yf_witLen yf_textLen ya_text ya_wit) (he : e ≤ T)
    (h : ∀ S c ways msg settled, c = da_cn (da_oi N (da_L ya_wlen) (da_B ya_word ya_wlen) t fin e) (e + 1) → (c = 0 → S = []) → (0 < c → da_lc (da_ol N (da_L ya_wlen) (da_B ya_word ya_wlen) t fin e (e + 1)) S) → (∀ j, j < S.length → settled j = nI (S.getD j 0)) → S.length ≤ e → post (yf_maxWords, yf_maxLength, yf_capacity, nI N, yf_verdict, yf_witLen, yf_textLen, yf_pos, yf_finished, nI S.length, nI c, ya_word, ya_wlen, ya_delays, ya_wit, ya_text, ya_near, ya_life, ya_set, ya_next, ways, msg, settled)) :
    ∀ f i (S : List Nat) c ways msg settled, i ≤ e + 1 → e + 1 - i < f → (fin ≠ 0 → e ≤ i) → c = da_cn (da_oi N (da_L ya_wlen) (da_B ya_word ya_wlen) t fin e) i → (c = 0 → S = []) → (0 < c → da_lc (da_ol N (da_L ya_wlen) (da_B ya_word ya_wlen) t fin e i) S) → (∀ j, j < S.length → settled j = nI (S.getD j 0)) → S.length ≤ e → (∀ x, x ∈ S → x < 2 ^ 31) →
      wY_settle_23 post (nI e) f (nI i) yf_maxWords yf_maxLength yf_capacity (nI N) yf_verdict yf_witLen yf_textLen yf_pos yf_finished (nI S.length) (nI c) ya_word ya_wlen ya_delays ya_wit ya_text ya_near ya_life ya_set ya_next ways msg settled := by
  have hok := da_cok_ok hc
  have hN := hc.1
  have hM := da_sc_le hs
  intro f
  induction f with
  | zero => intro i S c ways msg settled _ h0; omega
  | succ f ih =>
    intro i S c ways msg settled hi hf hfi hcn hc0 hlc hst hSl hSb
    have hcl : c ≤ i := by rw [hcn]; exact da_cn_le _ _
    refine pk_lt e i (fun q => ?_) (fun q => ?_)
    · have : i = e + 1 := by omega
      subst this
      exact h S c ways msg settled hcn hc0 hlc hst hSl
    · have skip : ∀ ways msg, ¬ da_oi N (da_L ya_wlen) (da_B ya_word ya_wlen) t fin e i → wY_settle_23 post (nI e) f (nI (i + 1)) yf_maxWords yf_maxLength yf_capacity (nI N) yf_verdict yf_witLen yf_textLen yf_pos yf_finished (nI S.length) (nI c) ya_word ya_wlen ya_delays ya_wit ya_text ya_near ya_life ya_set ya_next ways msg settled := by
        intro ways msg hno
        refine ih (i + 1) S c ways msg settled (by omega) (by omega) (fun w => by have := hfi w; omega) (by rw [da_cn_s, da_if_f hno]; exact hcn) hc0 (fun w => da_lc_c (fun l => ?_) (hlc w)) hst hSl hSb
        constructor
        · rintro ⟨x, x1, x2⟩; exact ⟨x, by omega, x2⟩
        · rintro ⟨x, x1, x2, x3, x4⟩
          rcases Nat.lt_or_ge x i with y | y
          · exact ⟨x, y, x2, x3, x4⟩
          · have : x = i := by omega
            subst this
            exact absurd ⟨x2, x3, l, da_gr_rd _ _ x4⟩ hno
      refine yw_open hc hs q he (fun w => ?_) (fun w => br_t rfl (nm_r (nI_1 i) (skip ways msg (fun y => w y.2.1))))
      refine br_f da_10 (yw_read (wh := 0) hc hs (by omega) (by omega) (fun l ways' msg' g1 g2 g3 => ?_) (fun ways' msg' g1 => ?_))
      · have hoi : da_oi N (da_L ya_wlen) (da_B ya_word ya_wlen) t fin e i := ⟨fun y => by have := hfi y; omega, w, l, da_gr_rd _ _ g1⟩
        have hol : ∀ l', da_ol N (da_L ya_wlen) (da_B ya_word ya_wlen) t fin e (i + 1) l' ↔ da_ol N (da_L ya_wlen) (da_B ya_word ya_wlen) t fin e i l' ∨ l' = l := by
          intro l'
          constructor
          · rintro ⟨x, x1, x2, x3, x4⟩
            rcases Nat.lt_or_ge x i with y | y
            · exact Or.inl ⟨x, y, x2, x3, x4⟩
            · have : x = i := by omega
              subst this
              exact Or.inr (da_gr_u hok _ _ _ x4 g1)
          · rintro (⟨x, x1, x2⟩ | x1)
            · exact ⟨x, by omega, x2⟩
            · subst x1; exact ⟨i, by omega, hoi.1, w, g1⟩
        have hcn' : c + 1 = da_cn (da_oi N (da_L ya_wlen) (da_B ya_word ya_wlen) t fin e) (i + 1) := by rw [da_cn_s, da_if_t hoi, hcn]
        have lb : ∀ x, x ∈ l → x < 2 ^ 31 := fun x hx => by have := da_rd_m _ _ _ (da_gr_rd _ _ g1) x hx; omega
        refine br_t (nI_pos' (by omega)) (pk_eq c 0 (fun y => ⟨l.length + 1, ?_⟩) (fun y => ⟨S.length + 2, ?_⟩))
        · subst y
          refine yw_se70a (l := l) (by omega) g3 (fun settled' hs' => ?_) (l.length + 1) 0 settled (by omega) (by omega) (fun x hx => by omega)
          refine ih (i + 1) l 1 ways' msg' settled' (by omega) (by omega) (fun w => by have := hfi w; omega) hcn' (fun z => by omega) (fun _ => da_lc_1 (fun l' => ?_)) hs' (by omega) lb
          rw [hol]
          constructor
          · rintro (⟨x, x1, x2, x3, x4⟩ | x1)
            · exfalso
              have : 0 < da_cn (da_oi N (da_L ya_wlen) (da_B ya_word ya_wlen) t fin e) i := by
                have := da_cn_lt (P := fun _ => False) (Q := da_oi N (da_L ya_wlen) (da_B ya_word ya_wlen) t fin e) (a := x) (n := i) (fun z => z) ⟨x2, x3, _, da_gr_rd _ _ x4⟩ (fun _ _ z => z.elim) x1
                omega
              omega
            · exact x1
          · intro x1; exact Or.inr x1
        · refine yw_se70b (S := S) (l := l) (by omega) (by omega) (by omega) (by omega) g3 hst hSb lb ?_ (S.length + 1) 0 (by omega) (by omega) (by omega) (fun x hx => by omega)
          have pl := da_lp_l S l
          refine ih (i + 1) (da_lp S l) (c + 1) ways' msg' settled (by omega) (by omega) (fun w => by have := hfi w; omega) hcn' (fun z => by omega) (fun _ => da_lc_add (hlc (by omega)) hol) (fun j hj => ?_) (by have := pl.length_le; omega) (fun x hx => hSb x (pl.subset hx))
          obtain ⟨r, hr⟩ := pl
          have := hst j (by have := (da_lp_l S l).length_le; omega)
          rw [this]
          conv => lhs; rw [← hr]
          rw [da_getD_l hj]
      · exact br_f (by decide) (nm_r (nI_1 i) (skip ways' msg' (fun y => g1 y.2.2)))
theorem yw_settle {N T e fin : Nat} {t : Nat → Nat} {post : SY → Prop} (hc : da_cok N ya_word ya_wlen) (hs : da_sc 0 T t yf_verdict yf_witLen yf_textLen ya_text ya_wit) (he : e ≤ T) (hfin : fin < 2) (ef : yf_finished = nI fin)
    (h : ∀ S c ways msg settled, c = da_cn (da_oi N (da_L ya_wlen) (da_B ya_word ya_wlen) t fin e) (e + 1) → (c = 0 → S = []) → (0 < c → da_lc (da_ol N (da_L ya_wlen) (da_B ya_word ya_wlen) t fin e (e + 1)) S) → (∀ j, j < S.length → settled j = nI (S.getD j 0)) → S.length ≤ e → post (yf_maxWords, yf_maxLength, yf_capacity, nI N, yf_verdict, yf_witLen, yf_textLen, yf_pos, yf_finished, nI S.length, nI c, ya_word, ya_wlen, ya_delays, ya_wit, ya_text, ya_near, ya_life, ya_set, ya_next, ways, msg, settled)) :
    wpY_settle post (yf_maxWords, yf_maxLength, yf_capacity, nI N, yf_verdict, yf_witLen, yf_textLen, yf_pos, yf_finished, yf_settledN, yf_opens, ya_word, ya_wlen, ya_delays, ya_wit, ya_text, ya_near, ya_life, ya_set, ya_next, ya_ways, ya_msg, ya_settled) (nI e) := by
  have hM := da_sc_le hs
  refine br_c (fun z => ⟨e + 2, ?_⟩) (fun z => ⟨2, ?_⟩)
  · have : fin = 0 := (nI_eq (b := 0) (by omega) (by omega)).mp (ef.symm.trans z)
    subst this
    exact yw_se23 hc hs he h (e + 2) 0 [] 0 _ _ _ (by omega) (by omega) (fun w => absurd rfl w) rfl (fun _ => rfl) (fun w => by omega) (fun j hj => by simp at hj) (by simp) (fun x hx => by simp at hx)
  · have f1 : fin ≠ 0 := by
      intro w; subst w
      exact z ef
    refine yw_se23 hc hs he h 2 e [] 0 _ _ _ (by omega) (by omega) (fun w => Nat.le_refl _) ?_ (fun _ => rfl) (fun w => by omega) (fun j hj => by simp at hj) (by simp) (fun x hx => by simp at hx)
    exact (da_cn_0 (fun k hk w => by have := w.1 f1; omega)).symm
end
end
section
/-! the decoder: pure part -/
def da_oc (N : Nat) (L : Nat → Nat) (B : Nat → Nat → Nat) (t : Nat → Nat) (p r k : Nat) : Prop := k < N ∧ r < L k ∧ r ≤ p ∧ da_rb N L B t 0 (p - r) ∧ ∀ j, j < r → t (p - r + j) = B k j
def da_ov (N : Nat) (L : Nat → Nat) (B : Nat → Nat → Nat) (nd : Nat → Nat → Nat) (t : Nat → Nat) (p r : Nat) (v : Int32) : Prop := (∃ k, da_oc N L B t p r k ∧ v = nI (nd k r)) ∨ (v = -1 ∧ ∀ k, ¬ da_oc N L B t p r k)
def da_o2 (N : Nat) (L : Nat → Nat) (B : Nat → Nat → Nat) (t : Nat → Nat) (lw wt : Nat → Int32) (q : Nat) : Prop := (∃ l, da_rd N L B t 0 l q ∧ wt q = nI l.length ∧ ((l = [] ∧ lw q = -1) ∨ ∃ l' k, l = l' ++ [k] ∧ lw q = nI k)) ∨ (¬ da_rb N L B t 0 q ∧ lw q = -1 ∧ wt q = 0)
def da_ow (N : Nat) (L : Nat → Nat) (B : Nat → Nat → Nat) (t : Nat → Nat) (p : Nat) (l : List Nat) : Prop := ∃ i, i ≤ p ∧ da_op N L B t i p ∧ da_rd N L B t 0 l i
def da_o3 (N : Nat) (L : Nat → Nat) (B : Nat → Nat → Nat) (t : Nat → Nat) (p dn : Nat) (sa ss : Int32) (st : Nat → Int32) : Prop := ∃ S a, sa = nI a ∧ a ≤ p ∧ da_rd N L B t 0 S a ∧ ss = nI S.length ∧ (∀ j, j < S.length → st j = nI (S.getD j 0)) ∧ (dn = 0 → da_lc (da_ow N L B t p) S) ∧ (dn ≠ 0 → a = p)
def da_can (N : Nat) (L : Nat → Nat) (B : Nat → Nat → Nat) (t : Nat → Nat) (p : Nat) : Prop := ∃ i, i ≤ p + 1 ∧ da_op N L B t i (p + 1) ∧ da_rb N L B t 0 i
def da_ed (N : Nat) (L : Nat → Nat) (B : Nat → Nat → Nat) (t : Nat → Nat) (p r k : Nat) : Prop := da_oc N L B t p r k ∧ r + 1 = L k ∧ t p = B k r
def da_dx (N : Nat) (L : Nat → Nat) (B : Nat → Nat → Nat) (nd : Nat → Nat → Nat) (t : Nat → Nat) (p dn : Nat) (on lw wt : Nat → Int32) (sa ss : Int32) (st : Nat → Int32) : Prop :=
  (∀ r, r < 8 → da_ov N L B nd t p r (on r)) ∧ (∀ q, q ≤ p → da_o2 N L B t lw wt q) ∧ da_o3 N L B t p dn sa ss st
section
variable {N : Nat} {L : Nat → Nat} {B : Nat → Nat → Nat} {nd : Nat → Nat → Nat} {nc : Nat} {nx we : Nat → Int32} {t : Nat → Nat} {p : Nat}
theorem da_oc_s {r k : Nat} : da_oc N L B t (p + 1) (r + 1) k ↔ da_oc N L B t p r k ∧ r + 1 < L k ∧ t p = B k r := by
  unfold da_oc
  rw [show p + 1 - (r + 1) = p - r by omega]
  constructor
  · rintro ⟨a, b, c, d, e⟩
    refine ⟨⟨a, by omega, by omega, d, fun j hj => e j (by omega)⟩, b, ?_⟩
    have := e r (by omega)
    rwa [show p - r + r = p by omega] at this
  · rintro ⟨⟨a, b, c, d, e⟩, f, g⟩
    refine ⟨a, f, by omega, d, fun j hj => ?_⟩
    rcases Nat.lt_or_ge j r with y | y
    · exact e j y
    · have : j = r := by omega
      subst this
      rwa [show p - j + j = p by omega]
theorem da_oc_nd (hn : da_ndok N L B nd) {r k k' : Nat} (h : da_oc N L B t p r k) (hk' : k' < N) (hr : r < L k') (e : nd k' r = nd k r) : da_oc N L B t p r k' := by
  obtain ⟨a, b, c, d, f⟩ := h
  have := ((hn.2 k' r k r hk' hr a b).mp e).2
  exact ⟨hk', hr, c, d, fun j hj => (f j hj).trans (this j hj).symm⟩
/-- a node's way deeper -/
theorem da_ov_dp (hk : da_ok N L B) (ht : da_tri N L B nd nc nx we) {r k : Nat} (h : da_oc N L B t p r k) : (nx (nd k r * 2 + t p) = -1 ∧ ∀ k', ¬ da_oc N L B t (p + 1) (r + 1) k') ∨ (∃ k', da_oc N L B t (p + 1) (r + 1) k' ∧ nx (nd k r * 2 + t p) = nI (nd k' (r + 1))) ∨ ¬ t p < 2 := by
  have hn := ht.1
  rcases Nat.lt_or_ge (t p) 2 with c2 | c2
  · have hu := ht.2.2.2.1 k r h.1 h.2.1
    rcases da_tri_nx hk ht hu c2 with ⟨z1, z2⟩ | ⟨u', z1, z2, k1, j1, a1, a2, a3, a4, a5⟩
    · refine Or.inl ⟨z1, fun k' w => ?_⟩
      obtain ⟨w1, w2, w3⟩ := da_oc_s.mp w
      refine z2 (nd k' (r + 1)) ⟨k', r, w1.1, w2, ?_, w3.symm, rfl⟩
      exact (hn.2 k r k' r h.1 h.2.1 w1.1 w1.2.1).mpr ⟨rfl, fun x hx => (h.2.2.2.2 x hx).symm.trans (w1.2.2.2.2 x hx)⟩
    · have e := (hn.2 k r k1 j1 h.1 h.2.1 a1 (by omega)).mp a3
      obtain ⟨e1, e2⟩ := e
      subst e1
      refine Or.inr (Or.inl ⟨k1, da_oc_s.mpr ⟨da_oc_nd hn h a1 (by omega) a3.symm, a2, a4.symm⟩, ?_⟩)
      rw [z2, a5]
  · exact Or.inr (Or.inr (by omega))
theorem da_ov_en (hk : da_ok N L B) (ht : da_tri N L B nd nc nx we) {r k : Nat} (h : da_oc N L B t p r k) (c2 : t p < 2) : (we (nd k r * 2 + t p) = -1 ∧ ∀ k', ¬ da_ed N L B t p r k') ∨ (∃ k', da_ed N L B t p r k' ∧ we (nd k r * 2 + t p) = nI k') := by
  have hn := ht.1
  have hu := ht.2.2.2.1 k r h.1 h.2.1
  rcases da_tri_we hk ht hu c2 with ⟨z1, z2⟩ | ⟨k1, z1, z2, a1, a3, a4⟩
  · refine Or.inl ⟨z1, fun k' w => ?_⟩
    obtain ⟨w1, w2, w3⟩ := w
    refine z2 k' ⟨w1.1, ?_, ?_⟩
    · rw [show L k' - 1 = r by omega]
      exact (hn.2 k r k' r h.1 h.2.1 w1.1 w1.2.1).mpr ⟨rfl, fun x hx => (h.2.2.2.2 x hx).symm.trans (w1.2.2.2.2 x hx)⟩
    · rw [show L k' - 1 = r by omega]; exact w3.symm
  · have hL := hk.2.1 k1 a1
    have e := (hn.2 k r k1 (L k1 - 1) h.1 h.2.1 a1 (by omega)).mp a3
    obtain ⟨e1, e2⟩ := e
    refine Or.inr ⟨k1, ⟨da_oc_nd hn h a1 (by omega) (by rw [a3, ← e1]), by omega, ?_⟩, z2⟩
    rw [e1]; exact a4.symm
/-- a word that ends: the prefix up to here has a reading, and the other way round -/
theorem da_ed_rd {r k : Nat} (h : da_ed N L B t p r k) : ∃ l, da_rd N L B t 0 l (p + 1 - L k) ∧ da_rd N L B t 0 (l ++ [k]) (p + 1) ∧ L k ≤ p + 1 := by
  obtain ⟨⟨a, b, c, ⟨l, d⟩, e⟩, f, g⟩ := h
  rw [show p - r = p + 1 - L k by omega] at d e
  refine ⟨l, d, (da_rd_app _ _ _ _).mpr ⟨_, d, a, fun j hj => ?_, ?_⟩, by omega⟩
  · rcases Nat.lt_or_ge j r with y | y
    · exact e j y
    · have : j = r := by omega
      subst this
      rw [show p + 1 - L k + j = p by omega]; exact g
  · show p + 1 - L k + L k = p + 1
    omega
theorem da_list_snoc (l : List Nat) : l = [] ∨ ∃ l' k, l = l' ++ [k] := by
  refine da_snoc (P := fun l => l = [] ∨ ∃ l' k, l = l' ++ [k]) (Or.inl rfl) (fun bs c _ => Or.inr ⟨bs, c, rfl⟩) l
theorem da_rd_snoc {l : List Nat} {k e : Nat} (h : da_rd N L B t 0 (l ++ [k]) e) : k < N ∧ L k ≤ e ∧ da_rd N L B t 0 l (e - L k) ∧ da_m L B t (e - L k) k := by
  obtain ⟨x, h1, h2, h3, h4⟩ := (da_rd_app _ _ _ _).mp h
  have h4 : x + L k = e := h4
  have e1 : x = e - L k := by omega
  subst e1
  exact ⟨h2, by omega, h1, h3⟩
theorem da_rd_ed (hk : da_ok N L B) {l : List Nat} (h : da_rd N L B t 0 l (p + 1)) : ∃ l' k, l = l' ++ [k] ∧ L k - 1 < 8 ∧ da_ed N L B t p (L k - 1) k ∧ da_rd N L B t 0 l' (p + 1 - L k) := by
  rcases da_list_snoc l with e | ⟨l', k, e⟩
  · subst e; exact absurd (show 0 = p + 1 from h) (by omega)
  · subst e
    obtain ⟨h1, h2, h3, h4⟩ := da_rd_snoc h
    have hL := hk.2.1 k h1
    refine ⟨l', k, rfl, by omega, ⟨⟨h1, by omega, by omega, ?_, fun j hj => ?_⟩, by omega, ?_⟩, h3⟩
    · rw [show p - (L k - 1) = p + 1 - L k by omega]; exact ⟨l', h3⟩
    · rw [show p - (L k - 1) = p + 1 - L k by omega]; exact h4 j (by omega)
    · have := h4 (L k - 1) (by omega)
      rwa [show p + 1 - L k + (L k - 1) = p by omega] at this
theorem da_can_iff (hk : da_ok N L B) : da_can N L B t p ↔ ∃ r k, r < 8 ∧ ((da_oc N L B t p r k ∧ r + 1 < L k ∧ t p = B k r) ∨ da_ed N L B t p r k) := by
  constructor
  · rintro ⟨i, h1, h2, l, h3⟩
    rcases h2 with e | ⟨k, k1, k2, k3⟩
    · subst e
      obtain ⟨l', k, _, q1, q2, _⟩ := da_rd_ed hk h3
      exact ⟨_, k, q1, Or.inr q2⟩
    · rcases Nat.lt_or_ge i (p + 1) with y | y
      · have hL := hk.2.1 k k1
        refine ⟨p - i, k, by omega, Or.inl ⟨⟨k1, by omega, by omega, ?_, fun j hj => ?_⟩, by omega, ?_⟩⟩
        · rw [show p - (p - i) = i by omega]; exact ⟨l, h3⟩
        · rw [show p - (p - i) = i by omega]; exact k3 j (by omega)
        · have := k3 (p - i) (by omega)
          rwa [show i + (p - i) = p by omega] at this
      · have : i = p + 1 := by omega
        subst this
        obtain ⟨l', k, _, q1, q2, _⟩ := da_rd_ed hk h3
        exact ⟨_, k, q1, Or.inr q2⟩
  · rintro ⟨r, k, _, h | h⟩
    · obtain ⟨⟨a, b, c, d, e⟩, f, g⟩ := h
      refine ⟨p - r, by omega, Or.inr ⟨k, a, by omega, fun j hj => ?_⟩, d⟩
      rcases Nat.lt_or_ge j r with y | y
      · exact e j y
      · have : j = r := by omega
        subst this
        rw [show p - j + j = p by omega]; exact g
    · obtain ⟨l, _, h2, _⟩ := da_ed_rd h
      exact ⟨p + 1, Nat.le_refl _, Or.inl rfl, _, h2⟩
/-- open places by their rests -/
theorem da_op_oc (hk : da_ok N L B) (hN : 0 < N) {i : Nat} (hi : i ≤ p) (h : da_op N L B t i p) (hr : da_rb N L B t 0 i) : p - i < 8 ∧ ∃ k, da_oc N L B t p (p - i) k := by
  rcases h with e | ⟨k, k1, k2, k3⟩
  · subst e
    refine ⟨by omega, 0, hN, by have := hk.2.1 0 hN; omega, by omega, ?_, fun j hj => by omega⟩
    rw [show i - (i - i) = i by omega]; exact hr
  · have := hk.2.1 k k1
    refine ⟨by omega, k, k1, k2, by omega, ?_, fun j hj => ?_⟩
    · rw [show p - (p - i) = i by omega]; exact hr
    · rw [show p - (p - i) = i by omega]; exact k3 j hj
theorem da_oc_op {r k : Nat} (h : da_oc N L B t p r k) : da_op N L B t (p - r) p ∧ da_rb N L B t 0 (p - r) := by
  obtain ⟨a, b, c, d, e⟩ := h
  refine ⟨Or.inr ⟨k, a, by omega, fun j hj => e j (by omega)⟩, d⟩
theorem da_ow_dn (hk : da_ok N L B) {l : List Nat} (h : da_ow N L B t (p + 1) l) : ∃ l0, da_ow N L B t p l0 ∧ l0 <+: l := by
  obtain ⟨i, h1, h2, h3⟩ := h
  have last : ∀ l, da_rd N L B t 0 l (p + 1) → ∃ l0, da_ow N L B t p l0 ∧ l0 <+: l := by
    intro l h3
    obtain ⟨l', k, e, _, q1, q2⟩ := da_rd_ed hk h3
    subst e
    obtain ⟨⟨c1, c2, c3, c4, c5⟩, c6, c7⟩ := q1
    have hL := hk.2.1 k c1
    refine ⟨l', ⟨p + 1 - L k, by omega, Or.inr ⟨k, c1, by omega, fun j hj => ?_⟩, q2⟩, List.prefix_append _ _⟩
    have := c5 j (by omega)
    rwa [show p - (L k - 1) = p + 1 - L k by omega] at this
  rcases h2 with e | ⟨k, k1, k2, k3⟩
  · subst e; exact last l h3
  · rcases Nat.lt_or_ge i (p + 1) with y | y
    · exact ⟨l, ⟨i, by omega, Or.inr ⟨k, k1, by omega, fun j hj => k3 j (by omega)⟩, h3⟩, List.prefix_refl _⟩
    · have : i = p + 1 := by omega
      subst this; exact last l h3
theorem da_lp_snoc {l lr : List Nat} {k : Nat} (h : ¬ (l ++ [k]) <+: lr) : da_lp (l ++ [k]) lr = da_lp l lr := by
  refine da_pfx_anti (da_lp_g _ _ _ ?_ (da_lp_r _ _)) (da_lp_g _ _ _ ((da_lp_l _ _).trans (List.prefix_append _ _)) (da_lp_r _ _))
  have h1 := da_lp_l (l ++ [k]) lr
  rcases List.prefix_concat_iff.mp (by simpa using h1) with q | q
  · exfalso; apply h
    have := da_lp_r (l ++ [k]) lr
    rw [q] at this
    simpa using this
  · exact q
theorem da_lp_sym : ∀ (l l' : List Nat), da_lp l l' = da_lp l' l
  | [], l' => by rw [da_lp_n, da_lp_n']
  | a :: l, [] => by rw [da_lp_n, da_lp_n']
  | a :: l, b :: l' => by
    by_cases e : a = b
    · subst e; rw [da_lp_c, da_lp_c, da_lp_sym l l']
    · rw [da_lp_f e, da_lp_f (fun w => e w.symm)]
theorem da_lp_self : ∀ (l : List Nat), da_lp l l = l
  | [] => rfl
  | a :: l => by rw [da_lp_c, da_lp_self l]
theorem da_rd_pfx (hk : da_ok N L B) {l l' : List Nat} {a b : Nat} (h : l <+: l') (h1 : da_rd N L B t 0 l a) (h2 : da_rd N L B t 0 l' b) : a ≤ b ∧ (a = b → l = l') := by
  obtain ⟨r, hr⟩ := h
  subst hr
  obtain ⟨x, q1, q2⟩ := (da_rd_app _ _ _ _).mp h2
  have fn : ∀ (l : List Nat) (i a b : Nat), da_rd N L B t i l a → da_rd N L B t i l b → a = b := by
    intro l
    induction l with
    | nil => intro i a b u v; exact (show i = a from u).symm.trans (show i = b from v)
    | cons k l ih => intro i a b u v; exact ih _ a b u.2.2 v.2.2
  have e := fn l 0 a x h1 q1
  subst e
  have := da_rd_le hk _ _ _ q2
  refine ⟨by omega, fun e => ?_⟩
  have : r.length = 0 := by omega
  rw [List.length_eq_zero_iff.mp this, List.append_nil]
end
end
section
/-! the component's decoder -/
section
variable {xf_maxWords xf_maxLength xf_textCapacity xf_wordCount xf_nodeCount xf_found xf_codeDelay xf_witnessSize xf_queueCount xf_textSize xf_decoderOn xf_decoderDone xf_readSize xf_settledAt xf_settledSize : Int32} {xa_wordCodes xa_wordLengths xa_nextNode xa_wordEnd xa_wordDelays xa_witness xa_witnessWords xa_witnessCounts xa_witnessRest xa_pairSeen xa_pairHeight xa_queuePair xa_queueFrom xa_queueDepth xa_queueGroup xa_queueBit xa_text xa_ways xa_openNode xa_lastWord xa_wordsTo xa_settled : Nat → Int32} {xa_startNodes : Nat → Int64}
theorem xw_canRead {N p nc : Nat} {nd : Nat → Nat → Nat} {t : Nat → Nat} {post : Int32 → Prop} (hk : da_ok N (da_L xa_wordLengths) (da_B xa_wordCodes xa_wordLengths)) (ht : da_tri N (da_L xa_wordLengths) (da_B xa_wordCodes xa_wordLengths) nd nc xa_nextNode xa_wordEnd) (hp : t p < 2) (ho : ∀ r, r < 8 → da_ov N (da_L xa_wordLengths) (da_B xa_wordCodes xa_wordLengths) nd t p r (xa_openNode r))
    (h1 : da_can N (da_L xa_wordLengths) (da_B xa_wordCodes xa_wordLengths) t p → post 1) (h0 : ¬ da_can N (da_L xa_wordLengths) (da_B xa_wordCodes xa_wordLengths) t p → post 0) : wpX_canRead post (xf_maxWords, xf_maxLength, xf_textCapacity, xf_wordCount, xf_nodeCount, xf_found, xf_codeDelay, xf_witnessSize, xf_queueCount, xf_textSize, xf_decoderOn, xf_decoderDone, xf_readSize, xf_settledAt, xf_settledSize, xa_wordCodes, xa_wordLengths, xa_nextNode, xa_wordEnd, xa_wordDelays, xa_witness, xa_witnessWords, xa_witnessCounts, xa_witnessRest, xa_startNodes, xa_pairSeen, xa_pairHeight, xa_queuePair, xa_queueFrom, xa_queueDepth, xa_queueGroup, xa_queueBit, xa_text, xa_ways, xa_openNode, xa_lastWord, xa_wordsTo, xa_settled) (nI (t p)) := by
  have h57 := ht.2.2.1
  have hN := hk.1
  have main : ∀ f r, r ≤ 8 → 8 - r < f → (∀ x k, x < r → ¬ ((da_oc N (da_L xa_wordLengths) (da_B xa_wordCodes xa_wordLengths) t p x k ∧ x + 1 < da_L xa_wordLengths k ∧ t p = da_B xa_wordCodes xa_wordLengths k x) ∨ da_ed N (da_L xa_wordLengths) (da_B xa_wordCodes xa_wordLengths) t p x k)) → wX_canRead_2 post (nI (t p)) xf_maxWords xf_maxLength xf_textCapacity xf_wordCount xf_nodeCount xf_found xf_codeDelay xf_witnessSize xf_queueCount xf_textSize xf_decoderOn xf_decoderDone xf_readSize xf_settledAt xf_settledSize xa_wordCodes xa_wordLengths xa_nextNode xa_wordEnd xa_wordDelays xa_witness xa_witnessWords xa_witnessCounts xa_witnessRest xa_startNodes xa_pairSeen xa_pairHeight xa_queuePair xa_queueFrom xa_queueDepth xa_queueGroup xa_queueBit xa_text xa_ways xa_openNode xa_lastWord xa_wordsTo xa_settled f (nI r) := by
    intro f
    induction f with
    | zero => intro r _ h0; omega
    | succ f ih =>
      intro r hr hf hx
      have cr : (nI r).toNatClampNeg = r := nI_clamp (by omega)
      refine pk_le 8 r (fun q => h0 ?_) (fun q => ?_)
      · intro w
        obtain ⟨x, k, x1, x2⟩ := (da_can_iff hk).mp w
        exact hx x k (by omega) x2
      · have ir : vp_in (nI r) 8 := vp_in_nI (by omega) (by omega)
        rw [cr]
        refine ⟨ir, ?_⟩
        have next : (∀ k, ¬ ((da_oc N (da_L xa_wordLengths) (da_B xa_wordCodes xa_wordLengths) t p r k ∧ r + 1 < da_L xa_wordLengths k ∧ t p = da_B xa_wordCodes xa_wordLengths k r) ∨ da_ed N (da_L xa_wordLengths) (da_B xa_wordCodes xa_wordLengths) t p r k)) → wX_canRead_2 post (nI (t p)) xf_maxWords xf_maxLength xf_textCapacity xf_wordCount xf_nodeCount xf_found xf_codeDelay xf_witnessSize xf_queueCount xf_textSize xf_decoderOn xf_decoderDone xf_readSize xf_settledAt xf_settledSize xa_wordCodes xa_wordLengths xa_nextNode xa_wordEnd xa_wordDelays xa_witness xa_witnessWords xa_witnessCounts xa_witnessRest xa_startNodes xa_pairSeen xa_pairHeight xa_queuePair xa_queueFrom xa_queueDepth xa_queueGroup xa_queueBit xa_text xa_ways xa_openNode xa_lastWord xa_wordsTo xa_settled f (nI (r + 1)) := by
          intro hno
          refine ih (r + 1) (by omega) (by omega) (fun x k hx' => ?_)
          rcases Nat.lt_or_ge x r with y | y
          · exact hx x k y
          · have : x = r := by omega
            subst this; exact hno k
        rcases ho r q with ⟨k, k1, k2⟩ | ⟨k1, k2⟩
        · have hu := ht.2.2.2.1 k r k1.1 k1.2.1
          have e1 : nI (nd k r) * 2 + nI (t p) = nI (nd k r * 2 + t p) := by rw [show (2 : Int32) = nI 2 from rfl, pk_mul, nI_add]
          have i1 : vp_in (nI (nd k r * 2 + t p)) 128 := vp_in_nI (by omega) (by omega)
          have c1 : (nI (nd k r * 2 + t p)).toNatClampNeg = nd k r * 2 + t p := nI_clamp (by omega)
          rw [k2]
          refine br_f (nI_pos (by omega)) ⟨ir, nm_r e1 ⟨i1, ?_⟩⟩
          rw [c1]
          rcases da_ov_dp hk ht k1 with ⟨z1, z2⟩ | ⟨k', z1, z2⟩ | z
          · rw [z1]
            refine br_f (by decide) ⟨i1, ?_⟩
            rcases da_ov_en hk ht k1 hp with ⟨y1, y2⟩ | ⟨k', y1, y2⟩
            · rw [y1]
              refine br_t da_neg1 (nm_r (nI_1 r) (next (fun k' w => ?_)))
              rcases w with w | w
              · exact z2 k' (da_oc_s.mpr w)
              · exact y2 k' w
            · rw [y2]
              exact br_f (nI_pos (by have := y1.1.1; omega)) (h1 ((da_can_iff hk).mpr ⟨r, k', q, Or.inr y1⟩))
          · rw [z2]
            have hu' := ht.2.2.2.1 k' (r + 1) z1.1 z1.2.1
            exact br_t (nI_pos' (by omega)) (h1 ((da_can_iff hk).mpr ⟨r, k', q, Or.inl (da_oc_s.mp z1)⟩))
          · exact absurd hp z
        · rw [k1]
          refine br_t da_neg1 (nm_r (nI_1 r) (next (fun k w => ?_)))
          rcases w with w | w
          · exact k2 k w.1
          · exact k2 k w.1
  exact ⟨9, main 9 0 (by omega) (by omega) (fun x k hx => by omega)⟩
theorem xw_placeBefore {N p q : Nat} {t : Nat → Nat} {l' : List Nat} {k : Nat} {post : Int32 → Prop} (hc : da_cok N xa_wordCodes xa_wordLengths) (hna : ∀ bs, ¬ da_ay N (da_L xa_wordLengths) (da_B xa_wordCodes xa_wordLengths) bs) (hq : q ≤ 256) (ho : da_o2 N (da_L xa_wordLengths) (da_B xa_wordCodes xa_wordLengths) t xa_lastWord xa_wordsTo q) (hl : da_rd N (da_L xa_wordLengths) (da_B xa_wordCodes xa_wordLengths) t 0 (l' ++ [k]) q)
    (h : post (nI (q - da_L xa_wordLengths k))) : wpX_placeBefore post (xf_maxWords, xf_maxLength, xf_textCapacity, xf_wordCount, xf_nodeCount, xf_found, xf_codeDelay, xf_witnessSize, xf_queueCount, xf_textSize, xf_decoderOn, xf_decoderDone, xf_readSize, xf_settledAt, xf_settledSize, xa_wordCodes, xa_wordLengths, xa_nextNode, xa_wordEnd, xa_wordDelays, xa_witness, xa_witnessWords, xa_witnessCounts, xa_witnessRest, xa_startNodes, xa_pairSeen, xa_pairHeight, xa_queuePair, xa_queueFrom, xa_queueDepth, xa_queueGroup, xa_queueBit, xa_text, xa_ways, xa_openNode, xa_lastWord, xa_wordsTo, xa_settled) (nI q) := by
  have hok := da_cok_ok hc
  have hN := hc.1
  have cq : (nI q).toNatClampNeg = q := nI_clamp (by omega)
  have iq : vp_in (nI q) 257 := vp_in_nI (by omega) (by omega)
  obtain ⟨k1, k2, _, _⟩ := da_rd_snoc hl
  obtain ⟨e2, l1, l2, _⟩ := da_cok_v hc k1
  have lw : xa_lastWord q = nI k := by
    rcases ho with ⟨l, r1, _, r3⟩ | ⟨r1, _⟩
    · have e := da_rd_uniq hok hna _ _ _ _ r1 hl
      subst e
      rcases r3 with ⟨r3, _⟩ | ⟨l2, k2', r3, r4⟩
      · simp at r3
      · have := List.append_inj_right' r3 rfl
        simp at this
        rw [r4, ← this]
    · exact absurd ⟨_, hl⟩ r1
  have ck : (nI k).toNatClampNeg = k := nI_clamp (by omega)
  refine And.intro iq ?_
  rw [cq, lw, ck, e2, pk_sub k2]
  exact br_t (nI_pos' (by omega)) ⟨iq, vp_in_nI (by omega) (by omega), h⟩
theorem xw_meet {N p : Nat} {t : Nat → Nat} {la lb : List Nat} {a b : Nat} {post : Int32 → Prop} (hc : da_cok N xa_wordCodes xa_wordLengths) (hna : ∀ bs, ¬ da_ay N (da_L xa_wordLengths) (da_B xa_wordCodes xa_wordLengths) bs) (hp : p ≤ 256) (ho : ∀ q, q ≤ p → da_o2 N (da_L xa_wordLengths) (da_B xa_wordCodes xa_wordLengths) t xa_lastWord xa_wordsTo q) (ha : a ≤ p) (hb : b ≤ p) (ra : da_rd N (da_L xa_wordLengths) (da_B xa_wordCodes xa_wordLengths) t 0 la a) (rb : da_rd N (da_L xa_wordLengths) (da_B xa_wordCodes xa_wordLengths) t 0 lb b)
    (h : ∀ c, c ≤ p → da_rd N (da_L xa_wordLengths) (da_B xa_wordCodes xa_wordLengths) t 0 (da_lp la lb) c → post (nI c)) : wpX_meet post (xf_maxWords, xf_maxLength, xf_textCapacity, xf_wordCount, xf_nodeCount, xf_found, xf_codeDelay, xf_witnessSize, xf_queueCount, xf_textSize, xf_decoderOn, xf_decoderDone, xf_readSize, xf_settledAt, xf_settledSize, xa_wordCodes, xa_wordLengths, xa_nextNode, xa_wordEnd, xa_wordDelays, xa_witness, xa_witnessWords, xa_witnessCounts, xa_witnessRest, xa_startNodes, xa_pairSeen, xa_pairHeight, xa_queuePair, xa_queueFrom, xa_queueDepth, xa_queueGroup, xa_queueBit, xa_text, xa_ways, xa_openNode, xa_lastWord, xa_wordsTo, xa_settled) (nI a) (nI b) := by
  have hok := da_cok_ok hc
  have main : ∀ f x y lx ly tn, x + y < f → tn + x + y ≤ 512 → x ≤ p → y ≤ p → da_rd N (da_L xa_wordLengths) (da_B xa_wordCodes xa_wordLengths) t 0 lx x → da_rd N (da_L xa_wordLengths) (da_B xa_wordCodes xa_wordLengths) t 0 ly y → da_lp lx ly = da_lp la lb → wX_meet_8 post xf_maxWords xf_maxLength xf_textCapacity xf_wordCount xf_nodeCount xf_found xf_codeDelay xf_witnessSize xf_queueCount xf_textSize xf_decoderOn xf_decoderDone xf_readSize xf_settledAt xf_settledSize xa_wordCodes xa_wordLengths xa_nextNode xa_wordEnd xa_wordDelays xa_witness xa_witnessWords xa_witnessCounts xa_witnessRest xa_startNodes xa_pairSeen xa_pairHeight xa_queuePair xa_queueFrom xa_queueDepth xa_queueGroup xa_queueBit xa_text xa_ways xa_openNode xa_lastWord xa_wordsTo xa_settled f (nI x) (nI y) (nI tn) := by
    intro f
    induction f with
    | zero => intro x y lx ly tn h0; omega
    | succ f ih =>
      intro x y lx ly tn hf htn hx hy rx ry el
      refine pk_le 520 tn (fun q => by omega) (fun q => ?_)
      refine pk_eq x y (fun z => ?_) (fun z => ?_)
      · subst z
        have e := da_rd_uniq hok hna _ _ _ _ rx ry
        subst e
        rw [da_lp_self] at el
        exact h x hx (el ▸ rx)
      · refine pk_le x y (fun w => ?_) (fun w => ?_)
        · rcases da_list_snoc ly with e | ⟨l', k, e⟩
          · subst e
            have : 0 = y := ry
            omega
          · subst e
            obtain ⟨k1, k2, k3, _⟩ := da_rd_snoc ry
            have hL := hok.2.1 k k1
            refine xw_placeBefore (p := p) hc hna (by omega) (ho y hy) ry (nm_r (nI_1 tn) ?_)
            refine ih x (y - da_L xa_wordLengths k) lx l' (tn + 1) (by omega) (by omega) hx (by omega) rx k3 ?_
            rw [← el, da_lp_sym lx, da_lp_sym lx]
            refine (da_lp_snoc (fun w2 => ?_)).symm
            have := da_rd_pfx hok w2 ry rx
            omega
        · rcases da_list_snoc lx with e | ⟨l', k, e⟩
          · subst e
            have : 0 = x := rx
            omega
          · subst e
            obtain ⟨k1, k2, k3, _⟩ := da_rd_snoc rx
            have hL := hok.2.1 k k1
            refine xw_placeBefore (p := p) hc hna (by omega) (ho x hx) rx (nm_r (nI_1 tn) ?_)
            refine ih (x - da_L xa_wordLengths k) y l' ly (tn + 1) (by omega) (by omega) (by omega) hy k3 ry ?_
            rw [← el]
            refine (da_lp_snoc (fun w2 => ?_)).symm
            have := da_rd_pfx hok w2 rx ry
            omega
  exact ⟨a + b + 1, main (a + b + 1) a b la lb 0 (by omega) (by omega) ha hb ra rb rfl⟩
theorem xw_commonPlace {N p : Nat} {nd : Nat → Nat → Nat} {t : Nat → Nat} {post : Int32 → Prop} (hc : da_cok N xa_wordCodes xa_wordLengths) (hN : 0 < N) (hnd : ∀ k r, k < N → r < da_L xa_wordLengths k → nd k r < 2 ^ 31) (hna : ∀ bs, ¬ da_ay N (da_L xa_wordLengths) (da_B xa_wordCodes xa_wordLengths) bs) (hp : p ≤ 256) (hov : ∀ r, r < 8 → da_ov N (da_L xa_wordLengths) (da_B xa_wordCodes xa_wordLengths) nd t p r (xa_openNode r)) (ho : ∀ q, q ≤ p → da_o2 N (da_L xa_wordLengths) (da_B xa_wordCodes xa_wordLengths) t xa_lastWord xa_wordsTo q) (hex : ∃ l, da_ow N (da_L xa_wordLengths) (da_B xa_wordCodes xa_wordLengths) t p l)
    (h : ∀ a S, a ≤ p → da_rd N (da_L xa_wordLengths) (da_B xa_wordCodes xa_wordLengths) t 0 S a → da_lc (da_ow N (da_L xa_wordLengths) (da_B xa_wordCodes xa_wordLengths) t p) S → post (nI a)) : wpX_commonPlace post (xf_maxWords, xf_maxLength, xf_textCapacity, xf_wordCount, xf_nodeCount, xf_found, xf_codeDelay, xf_witnessSize, xf_queueCount, xf_textSize, xf_decoderOn, xf_decoderDone, nI p, xf_settledAt, xf_settledSize, xa_wordCodes, xa_wordLengths, xa_nextNode, xa_wordEnd, xa_wordDelays, xa_witness, xa_witnessWords, xa_witnessCounts, xa_witnessRest, xa_startNodes, xa_pairSeen, xa_pairHeight, xa_queuePair, xa_queueFrom, xa_queueDepth, xa_queueGroup, xa_queueBit, xa_text, xa_ways, xa_openNode, xa_lastWord, xa_wordsTo, xa_settled) := by
  have hok := da_cok_ok hc
  have main : ∀ f r x, r ≤ 8 → 8 - r < f → ((x = -1 ∧ ∀ r' k, r' < r → ¬ da_oc N (da_L xa_wordLengths) (da_B xa_wordCodes xa_wordLengths) t p r' k) ∨ (∃ a S, x = nI a ∧ a ≤ p ∧ da_rd N (da_L xa_wordLengths) (da_B xa_wordCodes xa_wordLengths) t 0 S a ∧ da_lc (fun l => ∃ r' k, r' < r ∧ da_oc N (da_L xa_wordLengths) (da_B xa_wordCodes xa_wordLengths) t p r' k ∧ da_rd N (da_L xa_wordLengths) (da_B xa_wordCodes xa_wordLengths) t 0 l (p - r')) S)) → wX_commonPlace_4 post xf_maxWords xf_maxLength xf_textCapacity xf_wordCount xf_nodeCount xf_found xf_codeDelay xf_witnessSize xf_queueCount xf_textSize xf_decoderOn xf_decoderDone (nI p) xf_settledAt xf_settledSize xa_wordCodes xa_wordLengths xa_nextNode xa_wordEnd xa_wordDelays xa_witness xa_witnessWords xa_witnessCounts xa_witnessRest xa_startNodes xa_pairSeen xa_pairHeight xa_queuePair xa_queueFrom xa_queueDepth xa_queueGroup xa_queueBit xa_text xa_ways xa_openNode xa_lastWord xa_wordsTo xa_settled f x (nI r) := by
    intro f
    induction f with
    | zero => intro r x _ h0; omega
    | succ f ih =>
      intro r x hr hf hx
      have cr : (nI r).toNatClampNeg = r := nI_clamp (by omega)
      refine pk_le 8 r (fun q => ?_) (fun q => ?_)
      · rcases hx with ⟨x1, x2⟩ | ⟨a, S, x1, x2, x3, x4⟩
        · exfalso
          obtain ⟨l, i, i1, i2, i3⟩ := hex
          obtain ⟨q1, k, q2⟩ := da_op_oc hok hN i1 i2 ⟨l, i3⟩
          exact x2 _ k (by omega) q2
        · rw [x1]
          refine br_t (nI_pos' (by omega)) (h a S x2 x3 (da_lc_c (fun l => ?_) x4))
          constructor
          · rintro ⟨r', k, _, y2, y3⟩
            exact ⟨p - r', by omega, (da_oc_op y2).1, y3⟩
          · rintro ⟨i, i1, i2, i3⟩
            obtain ⟨q1, k, q2⟩ := da_op_oc hok hN i1 i2 ⟨l, i3⟩
            refine ⟨p - i, k, by omega, q2, ?_⟩
            rw [show p - (p - i) = i by omega]; exact i3
      · rw [cr]
        refine ⟨vp_in_nI (by omega) (by omega), ?_⟩
        rcases hov r q with ⟨k, k1, k2⟩ | ⟨k1, k2⟩
        · rw [k2]
          have hnd' := hnd k r k1.1 k1.2.1
          obtain ⟨l0, rl0⟩ := k1.2.2.2.1
          have hrp := k1.2.2.1
          refine br_f (nI_pos hnd') (nm_r (pk_sub hrp) ?_)
          have sets : ∀ l, (∃ r' k, r' < r + 1 ∧ da_oc N (da_L xa_wordLengths) (da_B xa_wordCodes xa_wordLengths) t p r' k ∧ da_rd N (da_L xa_wordLengths) (da_B xa_wordCodes xa_wordLengths) t 0 l (p - r')) ↔ (∃ r' k, r' < r ∧ da_oc N (da_L xa_wordLengths) (da_B xa_wordCodes xa_wordLengths) t p r' k ∧ da_rd N (da_L xa_wordLengths) (da_B xa_wordCodes xa_wordLengths) t 0 l (p - r')) ∨ l = l0 := by
            intro l
            constructor
            · rintro ⟨r', k', y1, y2, y3⟩
              rcases Nat.lt_or_ge r' r with v | v
              · exact Or.inl ⟨r', k', v, y2, y3⟩
              · have : r' = r := by omega
                subst this
                exact Or.inr (da_rd_uniq hok hna _ _ _ _ y3 rl0)
            · rintro (⟨r', k', y1, y2⟩ | y)
              · exact ⟨r', k', by omega, y2⟩
              · subst y; exact ⟨r, k, by omega, k1, rl0⟩
          rcases hx with ⟨x1, x2⟩ | ⟨a, S, x1, x2, x3, x4⟩
          · rw [x1]
            refine br_f (by decide) (nm_r (nI_1 r) (ih (r + 1) _ (by omega) (by omega) (Or.inr ⟨p - r, l0, rfl, by omega, rl0, da_lc_1 (fun l => ?_)⟩)))
            rw [sets]
            constructor
            · rintro (⟨r', k', y1, y2, _⟩ | y)
              · exact absurd y2 (x2 r' k' y1)
              · exact y
            · intro y; exact Or.inr y
          · rw [x1]
            refine br_t (nI_pos' (by omega)) (xw_meet (p := p) hc hna hp ho x2 (by omega) x3 rl0 (fun c c1 c2 => nm_r (nI_1 r) (ih (r + 1) _ (by omega) (by omega) (Or.inr ⟨c, _, rfl, c1, c2, da_lc_add x4 sets⟩))))
        · rw [k1]
          refine br_t da_neg1 (nm_r (nI_1 r) (ih (r + 1) x (by omega) (by omega) ?_))
          rcases hx with ⟨x1, x2⟩ | ⟨a, S, x1, x2, x3, x4⟩
          · refine Or.inl ⟨x1, fun r' k hr' => ?_⟩
            rcases Nat.lt_or_ge r' r with v | v
            · exact x2 r' k v
            · have : r' = r := by omega
              subst this; exact k2 k
          · refine Or.inr ⟨a, S, x1, x2, x3, da_lc_c (fun l => ?_) x4⟩
            constructor
            · rintro ⟨r', k', y1, y2⟩; exact ⟨r', k', by omega, y2⟩
            · rintro ⟨r', k', y1, y2, y3⟩
              rcases Nat.lt_or_ge r' r with v | v
              · exact ⟨r', k', v, y2, y3⟩
              · have : r' = r := by omega
                subst this; exact absurd y2 (k2 k')
  exact ⟨9, main 9 0 (-1) (by omega) (by omega) (Or.inl ⟨rfl, fun r' k hr => by omega⟩)⟩
theorem xw_settleUpTo {N p a q : Nat} {t : Nat → Nat} {S S' : List Nat} {post : SX → Prop} (hc : da_cok N xa_wordCodes xa_wordLengths) (hna : ∀ bs, ¬ da_ay N (da_L xa_wordLengths) (da_B xa_wordCodes xa_wordLengths) bs) (hp : p ≤ 256) (ho : ∀ q, q ≤ p → da_o2 N (da_L xa_wordLengths) (da_B xa_wordCodes xa_wordLengths) t xa_lastWord xa_wordsTo q) (hap : a ≤ p) (hq : q ≤ p) (rS : da_rd N (da_L xa_wordLengths) (da_B xa_wordCodes xa_wordLengths) t 0 S a) (rS' : da_rd N (da_L xa_wordLengths) (da_B xa_wordCodes xa_wordLengths) t 0 S' q) (hpf : S <+: S') (hst : ∀ j, j < S.length → xa_settled j = nI (S.getD j 0))
    (h : ∀ st, (∀ j, j < S'.length → st j = nI (S'.getD j 0)) → post (xf_maxWords, xf_maxLength, xf_textCapacity, xf_wordCount, xf_nodeCount, xf_found, xf_codeDelay, xf_witnessSize, xf_queueCount, xf_textSize, xf_decoderOn, xf_decoderDone, xf_readSize, nI q, nI S'.length, xa_wordCodes, xa_wordLengths, xa_nextNode, xa_wordEnd, xa_wordDelays, xa_witness, xa_witnessWords, xa_witnessCounts, xa_witnessRest, xa_startNodes, xa_pairSeen, xa_pairHeight, xa_queuePair, xa_queueFrom, xa_queueDepth, xa_queueGroup, xa_queueBit, xa_text, xa_ways, xa_openNode, xa_lastWord, xa_wordsTo, st)) : wpX_settleUpTo post (xf_maxWords, xf_maxLength, xf_textCapacity, xf_wordCount, xf_nodeCount, xf_found, xf_codeDelay, xf_witnessSize, xf_queueCount, xf_textSize, xf_decoderOn, xf_decoderDone, xf_readSize, nI a, xf_settledSize, xa_wordCodes, xa_wordLengths, xa_nextNode, xa_wordEnd, xa_wordDelays, xa_witness, xa_witnessWords, xa_witnessCounts, xa_witnessRest, xa_startNodes, xa_pairSeen, xa_pairHeight, xa_queuePair, xa_queueFrom, xa_queueDepth, xa_queueGroup, xa_queueBit, xa_text, xa_ways, xa_openNode, xa_lastWord, xa_wordsTo, xa_settled) (nI q) := by
  have hok := da_cok_ok hc
  have cq : (nI q).toNatClampNeg = q := nI_clamp (by omega)
  have wt : ∀ q l, q ≤ p → da_rd N (da_L xa_wordLengths) (da_B xa_wordCodes xa_wordLengths) t 0 l q → xa_wordsTo q = nI l.length ∧ ∀ l' k, l = l' ++ [k] → xa_lastWord q = nI k := by
    intro q l hq hl
    rcases ho q hq with ⟨l2, r1, r2, r3⟩ | ⟨r1, _⟩
    · have e := da_rd_uniq hok hna _ _ _ _ r1 hl
      subst e
      refine ⟨r2, fun l' k e => ?_⟩
      rcases r3 with ⟨r3, _⟩ | ⟨l3, k3, r3, r4⟩
      · rw [r3] at e; simp at e
      · rw [r3] at e
        have := List.append_inj_right' e rfl
        simp at this
        rw [r4, this]
    · exact absurd ⟨_, hl⟩ r1
  have lS' := da_rd_le hok _ _ _ rS'
  have main : ∀ f x lx tn st, x < f → x ≤ p → tn + lx.length ≤ S'.length → da_rd N (da_L xa_wordLengths) (da_B xa_wordCodes xa_wordLengths) t 0 lx x → S <+: lx → lx <+: S' → (∀ j, j < S.length → st j = nI (S.getD j 0)) → (∀ j, lx.length ≤ j → j < S'.length → st j = nI (S'.getD j 0)) →
      wX_settleUpTo_4 post (nI q) xf_maxWords xf_maxLength xf_textCapacity xf_wordCount xf_nodeCount xf_found xf_codeDelay xf_witnessSize xf_queueCount xf_textSize xf_decoderOn xf_decoderDone xf_readSize (nI a) xf_settledSize f (nI x) (nI tn) xa_wordCodes xa_wordLengths xa_nextNode xa_wordEnd xa_wordDelays xa_witness xa_witnessWords xa_witnessCounts xa_witnessRest xa_startNodes xa_pairSeen xa_pairHeight xa_queuePair xa_queueFrom xa_queueDepth xa_queueGroup xa_queueBit xa_text xa_ways xa_openNode xa_lastWord xa_wordsTo st := by
    intro f
    induction f with
    | zero => intro x lx tn st h0; omega
    | succ f ih =>
      intro x lx tn st hf hx htn rx p1 p2 s1 s2
      refine pk_le 260 tn (fun z => by omega) (fun z => ?_)
      have pl := da_rd_pfx hok p1 rS rx
      refine pk_le x a (fun w => ?_) (fun w => ?_)
      · have e : S = lx := pl.2 (by omega)
        subst e
        unfold wX_settleUpTo_59
        rw [cq, (wt q S' hq rS').1]
        refine ⟨vp_in_nI (by omega) (by omega), nm_e (h st (fun j hj => ?_))⟩
        rcases Nat.lt_or_ge j S.length with y | y
        · rw [s1 j y]
          obtain ⟨r, hr⟩ := p2
          rw [← hr, da_getD_l y]
        · exact s2 j y hj
      · rcases da_list_snoc lx with e | ⟨l', k, e⟩
        · subst e
          have : 0 = x := rx
          omega
        · subst e
          obtain ⟨k1, k2, k3, _⟩ := da_rd_snoc rx
          have hL := hok.2.1 k k1
          have cx : (nI x).toNatClampNeg = x := nI_clamp (by omega)
          obtain ⟨w1, w2⟩ := wt x _ hx rx
          have len : (l' ++ [k]).length = l'.length + 1 := by rw [List.length_append]; rfl
          have hle := p2.length_le
          rw [len] at htn hle
          have cl : (nI l'.length).toNatClampNeg = l'.length := nI_clamp (by omega)
          have ix : vp_in (nI x) 257 := vp_in_nI (by omega) (by omega)
          refine ⟨ix, nm_r (e' := nI l'.length) (by rw [cx, w1, len, nI_pred]) (br_f (nI_pos (by omega)) ⟨ix, vp_in_nI (by omega) (by omega), ?_⟩)⟩
          rw [cl, cx, w2 l' k rfl]
          refine nm_e (xw_placeBefore (p := p) hc hna (by omega) (ho x hx) rx (nm_r (nI_1 tn) ?_))
          have pS : S <+: l' := by
            rcases List.prefix_concat_iff.mp (by simpa using p1) with q1 | q1
            · exfalso
              have := pl.1
              have e : S = l' ++ [k] := by simpa using q1
              rw [← e] at rx
              have := da_rd_pfx hok (List.prefix_refl S) rx rS
              omega
            · exact q1
          have pl' : l' <+: S' := (List.prefix_append l' [k]).trans p2
          refine ih (x - da_L xa_wordLengths k) l' (tn + 1) _ (by omega) (by omega) (by omega) k3 pS pl' (fun j hj => ?_) (fun j h1 h2 => ?_)
          · have := pS.length_le
            rw [pk_un (by omega)]; exact s1 j hj
          · rcases Nat.lt_or_ge l'.length j with y | y
            · rw [pk_un (by omega)]; exact s2 j (by omega) h2
            · have : j = l'.length := by omega
              subst this
              rw [pk_us]
              obtain ⟨r, hr⟩ := p2
              rw [← hr, List.append_assoc, List.getD_eq_getElem?_getD, List.getElem?_append_right (Nat.le_refl _), Nat.sub_self]
              rfl
  exact ⟨q + 1, main (q + 1) q S' 0 xa_settled (by omega) hq (by omega) rS' hpf (List.prefix_refl _) hst (fun j h1 h2 => by omega)⟩
end
end
section
/-! reading a bit; starting; decode on both sides -/
section
variable {xf_maxWords xf_maxLength xf_textCapacity xf_wordCount xf_nodeCount xf_found xf_codeDelay xf_witnessSize xf_queueCount xf_textSize xf_decoderOn xf_decoderDone xf_readSize xf_settledAt xf_settledSize : Int32} {xa_wordCodes xa_wordLengths xa_nextNode xa_wordEnd xa_wordDelays xa_witness xa_witnessWords xa_witnessCounts xa_witnessRest xa_pairSeen xa_pairHeight xa_queuePair xa_queueFrom xa_queueDepth xa_queueGroup xa_queueBit xa_text xa_ways xa_openNode xa_lastWord xa_wordsTo xa_settled : Nat → Int32} {xa_startNodes : Nat → Int64}
theorem xw_rb157 {N p nc : Nat} {nd : Nat → Nat → Nat} {t : Nat → Nat} {post : SX → Prop} (hc : da_cok N xa_wordCodes xa_wordLengths) (hN : 0 < N) (ht : da_tri N (da_L xa_wordLengths) (da_B xa_wordCodes xa_wordLengths) nd nc xa_nextNode xa_wordEnd) (hna : ∀ bs, ¬ da_ay N (da_L xa_wordLengths) (da_B xa_wordCodes xa_wordLengths) bs) (hp : p + 1 ≤ 256) (hcan : da_can N (da_L xa_wordLengths) (da_B xa_wordCodes xa_wordLengths) t p) (h3 : da_o3 N (da_L xa_wordLengths) (da_B xa_wordCodes xa_wordLengths) t p 0 xf_settledAt xf_settledSize xa_settled) (hov : ∀ r, r < 8 → da_ov N (da_L xa_wordLengths) (da_B xa_wordCodes xa_wordLengths) nd t (p + 1) r (xa_openNode r)) (ho : ∀ q, q ≤ p + 1 → da_o2 N (da_L xa_wordLengths) (da_B xa_wordCodes xa_wordLengths) t xa_lastWord xa_wordsTo q)
    (h : ∀ sa ss st, da_dx N (da_L xa_wordLengths) (da_B xa_wordCodes xa_wordLengths) nd t (p + 1) 0 xa_openNode xa_lastWord xa_wordsTo sa ss st → post (xf_maxWords, xf_maxLength, xf_textCapacity, xf_wordCount, xf_nodeCount, xf_found, xf_codeDelay, xf_witnessSize, xf_queueCount, xf_textSize, xf_decoderOn, xf_decoderDone, nI (p + 1), sa, ss, xa_wordCodes, xa_wordLengths, xa_nextNode, xa_wordEnd, xa_wordDelays, xa_witness, xa_witnessWords, xa_witnessCounts, xa_witnessRest, xa_startNodes, xa_pairSeen, xa_pairHeight, xa_queuePair, xa_queueFrom, xa_queueDepth, xa_queueGroup, xa_queueBit, xa_text, xa_ways, xa_openNode, xa_lastWord, xa_wordsTo, st)) :
    wX_readBit_157 post xf_maxWords xf_maxLength xf_textCapacity xf_wordCount xf_nodeCount xf_found xf_codeDelay xf_witnessSize xf_queueCount xf_textSize xf_decoderOn xf_decoderDone (nI (p + 1)) xf_settledAt xf_settledSize xa_wordCodes xa_wordLengths xa_nextNode xa_wordEnd xa_wordDelays xa_witness xa_witnessWords xa_witnessCounts xa_witnessRest xa_startNodes xa_pairSeen xa_pairHeight xa_queuePair xa_queueFrom xa_queueDepth xa_queueGroup xa_queueBit xa_text xa_ways xa_openNode xa_lastWord xa_wordsTo xa_settled := by
  have hok := da_cok_ok hc
  have h57 := ht.2.2.1
  obtain ⟨S, a, e1, e2, e3, e4, e5, e6, _⟩ := h3
  obtain ⟨i, i1, i2, l, i3⟩ := hcan
  unfold wX_readBit_157
  refine xw_commonPlace (nd := nd) hc hN (fun k r a b => by have := ht.2.2.2.1 k r a b; omega) hna hp hov ho ⟨l, i, i1, i2, i3⟩ (fun b S' b1 b2 b3 => ?_)
  subst e1; subst e4
  have pf : S <+: S' := b3.2 S (fun l hl => by
    obtain ⟨l0, q1, q2⟩ := da_ow_dn hok hl
    exact ((e6 rfl).1 l0 q1).trans q2)
  refine xw_settleUpTo (p := p + 1) hc hna hp ho (by omega) b1 e3 b2 pf e5 (fun st hst => ?_)
  exact h _ _ st ⟨hov, ho, S', b, rfl, b1, b2, rfl, hst, fun _ => b3, fun z => absurd rfl z⟩
theorem xw_readBit {N p nc : Nat} {nd : Nat → Nat → Nat} {t : Nat → Nat} {post : SX → Prop} (hc : da_cok N xa_wordCodes xa_wordLengths) (hN : 0 < N) (ht : da_tri N (da_L xa_wordLengths) (da_B xa_wordCodes xa_wordLengths) nd nc xa_nextNode xa_wordEnd) (hna : ∀ bs, ¬ da_ay N (da_L xa_wordLengths) (da_B xa_wordCodes xa_wordLengths) bs) (hp : p + 1 ≤ 256) (htp : t p < 2) (hcan : da_can N (da_L xa_wordLengths) (da_B xa_wordCodes xa_wordLengths) t p) (hdx : da_dx N (da_L xa_wordLengths) (da_B xa_wordCodes xa_wordLengths) nd t p 0 xa_openNode xa_lastWord xa_wordsTo xf_settledAt xf_settledSize xa_settled)
    (h : ∀ on lw wt sa ss st, da_dx N (da_L xa_wordLengths) (da_B xa_wordCodes xa_wordLengths) nd t (p + 1) 0 on lw wt sa ss st → post (xf_maxWords, xf_maxLength, xf_textCapacity, xf_wordCount, xf_nodeCount, xf_found, xf_codeDelay, xf_witnessSize, xf_queueCount, xf_textSize, xf_decoderOn, xf_decoderDone, nI (p + 1), sa, ss, xa_wordCodes, xa_wordLengths, xa_nextNode, xa_wordEnd, xa_wordDelays, xa_witness, xa_witnessWords, xa_witnessCounts, xa_witnessRest, xa_startNodes, xa_pairSeen, xa_pairHeight, xa_queuePair, xa_queueFrom, xa_queueDepth, xa_queueGroup, xa_queueBit, xa_text, xa_ways, on, lw, wt, st)) :
    wpX_readBit post (xf_maxWords, xf_maxLength, xf_textCapacity, xf_wordCount, xf_nodeCount, xf_found, xf_codeDelay, xf_witnessSize, xf_queueCount, xf_textSize, xf_decoderOn, xf_decoderDone, nI p, xf_settledAt, xf_settledSize, xa_wordCodes, xa_wordLengths, xa_nextNode, xa_wordEnd, xa_wordDelays, xa_witness, xa_witnessWords, xa_witnessCounts, xa_witnessRest, xa_startNodes, xa_pairSeen, xa_pairHeight, xa_queuePair, xa_queueFrom, xa_queueDepth, xa_queueGroup, xa_queueBit, xa_text, xa_ways, xa_openNode, xa_lastWord, xa_wordsTo, xa_settled) (nI (t p)) := by
  have hok := da_cok_ok hc
  have h8 := hc.1
  have h57 := ht.2.2.1
  obtain ⟨hov, ho, h3⟩ := hdx
  have main : ∀ f i x cur, i ≤ 8 → i < f → (∀ s, s < i → cur s = xa_openNode s) → (∀ s, i < s → s < 8 → da_ov N (da_L xa_wordLengths) (da_B xa_wordCodes xa_wordLengths) nd t (p + 1) s (cur s)) → ((x = -1 ∧ ∀ r k, i ≤ r → r < 8 → ¬ da_ed N (da_L xa_wordLengths) (da_B xa_wordCodes xa_wordLengths) t p r k) ∨ ∃ r k, r < 8 ∧ x = nI k ∧ da_ed N (da_L xa_wordLengths) (da_B xa_wordCodes xa_wordLengths) t p r k) →
      wX_readBit_5 post (nI (t p)) xf_maxWords xf_maxLength xf_textCapacity xf_wordCount xf_nodeCount xf_found xf_codeDelay xf_witnessSize xf_queueCount xf_textSize xf_decoderOn xf_decoderDone (nI p) xf_settledAt xf_settledSize f x (nI i - 1) xa_wordCodes xa_wordLengths xa_nextNode xa_wordEnd xa_wordDelays xa_witness xa_witnessWords xa_witnessCounts xa_witnessRest xa_startNodes xa_pairSeen xa_pairHeight xa_queuePair xa_queueFrom xa_queueDepth xa_queueGroup xa_queueBit xa_text xa_ways cur xa_lastWord xa_wordsTo xa_settled := by
    intro f
    induction f with
    | zero => intro i x cur _ h0; omega
    | succ f ih =>
      intro i x cur hi hf hold hnew hx
      cases i with
      | zero =>
        rw [da_nm1]
        have cp : (nI (p + 1)).toNatClampNeg = p + 1 := nI_clamp (by omega)
        have ip : vp_in (nI (p + 1)) 257 := vp_in_nI (by omega) (by omega)
        refine br_t da_neg1 (nm_r (nI_1 p) ⟨ip, ?_⟩)
        rw [cp]
        refine nm_e ⟨ip, nm_e (nm_e ?_)⟩
        have oq : ∀ lw' wt', (∀ q, q ≤ p → lw' q = xa_lastWord q ∧ wt' q = xa_wordsTo q) → da_o2 N (da_L xa_wordLengths) (da_B xa_wordCodes xa_wordLengths) t lw' wt' (p + 1) → ∀ q, q ≤ p + 1 → da_o2 N (da_L xa_wordLengths) (da_B xa_wordCodes xa_wordLengths) t lw' wt' q := by
          intro lw' wt' h1 h2 q hq
          rcases Nat.lt_or_ge p q with y | y
          · have : q = p + 1 := by omega
            subst this; exact h2
          · have := ho q y
            unfold da_o2 at this ⊢
            rw [(h1 q y).1, (h1 q y).2]; exact this
        rcases hx with ⟨x1, x2⟩ | ⟨r, k, x1, x2, x3⟩
        · rw [x1]
          have nrb : ¬ da_rb N (da_L xa_wordLengths) (da_B xa_wordCodes xa_wordLengths) t 0 (p + 1) := by
            rintro ⟨l, hl⟩
            obtain ⟨l', k, _, q1, q2, _⟩ := da_rd_ed hok hl
            exact x2 _ k (by omega) q1 q2
          refine br_t da_neg1 (xw_rb157 (nd := nd) hc hN ht hna hp hcan h3 (fun r hr => ?_) (oq _ _ (fun q hq => ⟨pk_un (by omega), pk_un (by omega)⟩) (Or.inr ⟨nrb, pk_us, pk_us⟩)) (fun sa ss st hd => h _ _ _ sa ss st hd))
          by_cases y : r = 0
          · subst y; rw [pk_us]
            exact Or.inr ⟨rfl, fun k w => nrb w.2.2.2.1⟩
          · rw [pk_un y]; exact hnew r (by omega) hr
        · rw [x2]
          obtain ⟨l, q1, q2, q3⟩ := da_ed_rd x3
          have hkN := x3.1.1
          obtain ⟨e2, l1, l2, _⟩ := da_cok_v hc hkN
          have ck : (nI k).toNatClampNeg = k := nI_clamp (by omega)
          have cs : (nI (p + 1 - da_L xa_wordLengths k)).toNatClampNeg = p + 1 - da_L xa_wordLengths k := nI_clamp (by omega)
          refine br_f (nI_pos (by omega)) (nm_e ⟨vp_in_nI (by omega) (by omega), ?_⟩)
          rw [ck, e2, pk_sub q3, cs, pk_un (show p + 1 - da_L xa_wordLengths k ≠ p + 1 by omega)]
          have wl : xa_wordsTo (p + 1 - da_L xa_wordLengths k) = nI l.length := by
            rcases ho (p + 1 - da_L xa_wordLengths k) (by omega) with ⟨l2, r1, r2, _⟩ | ⟨r1, _⟩
            · rw [r2, da_rd_uniq hok hna _ _ _ _ r1 q1]
            · exact absurd ⟨_, q1⟩ r1
          rw [wl, nI_1]
          refine ⟨vp_in_nI (by omega) (by omega), ip, nm_e (xw_rb157 (nd := nd) hc hN ht hna hp hcan h3 (fun r' hr' => ?_) (oq _ _ (fun q hq => ⟨pk_un (by omega), by rw [pk_un (by omega), pk_un (by omega)]⟩) (Or.inl ⟨l ++ [k], q2, ?_, Or.inr ⟨l, k, rfl, pk_us⟩⟩)) (fun sa ss st hd => h _ _ _ sa ss st hd))⟩
          · by_cases y : r' = 0
            · subst y; rw [pk_us]
              refine Or.inl ⟨0, ⟨hN, by have := hok.2.1 0 hN; omega, by omega, ⟨_, q2⟩, fun j hj => by omega⟩, ?_⟩
              rw [ht.1.1 0]; rfl
            · rw [pk_un y, pk_un y]; exact hnew r' (by omega) hr'
          · rw [pk_us, List.length_append]; rfl
      | succ i =>
        rw [nI_pred]
        have ci : (nI i).toNatClampNeg = i := nI_clamp (by omega)
        have ii : vp_in (nI i) 8 := vp_in_nI (by omega) (by omega)
        have fin : ∀ v x', da_ov N (da_L xa_wordLengths) (da_B xa_wordCodes xa_wordLengths) nd t (p + 1) (i + 1) v → ((x' = -1 ∧ ∀ r k, i ≤ r → r < 8 → ¬ da_ed N (da_L xa_wordLengths) (da_B xa_wordCodes xa_wordLengths) t p r k) ∨ ∃ r k, r < 8 ∧ x' = nI k ∧ da_ed N (da_L xa_wordLengths) (da_B xa_wordCodes xa_wordLengths) t p r k) →
            wX_readBit_60 post (wX_readBit_5 post (nI (t p)) xf_maxWords xf_maxLength xf_textCapacity xf_wordCount xf_nodeCount xf_found xf_codeDelay xf_witnessSize xf_queueCount xf_textSize xf_decoderOn xf_decoderDone (nI p) xf_settledAt xf_settledSize f) (nI (t p)) x' (nI i) v xf_maxWords xf_maxLength xf_textCapacity xf_wordCount xf_nodeCount xf_found xf_codeDelay xf_witnessSize xf_queueCount xf_textSize xf_decoderOn xf_decoderDone (nI p) xf_settledAt xf_settledSize xa_wordCodes xa_wordLengths xa_nextNode xa_wordEnd xa_wordDelays xa_witness xa_witnessWords xa_witnessCounts xa_witnessRest xa_startNodes xa_pairSeen xa_pairHeight xa_queuePair xa_queueFrom xa_queueDepth xa_queueGroup xa_queueBit xa_text xa_ways cur xa_lastWord xa_wordsTo xa_settled := by
          intro v x' hv hx'
          refine pk_le 7 i (fun w => nm_r (da_pm i) (ih i x' cur (by omega) (by omega) (fun s hs => hold s (by omega)) (fun s h1 h2 => by omega) hx')) (fun w => ?_)
          have c1 : (nI (i + 1)).toNatClampNeg = i + 1 := nI_clamp (by omega)
          rw [nI_1, c1]
          refine ⟨vp_in_nI (by omega) (by omega), nm_e (nm_r (da_pm i) (ih i x' _ (by omega) (by omega) (fun s hs => ?_) (fun s h1 h2 => ?_) hx'))⟩
          · rw [pk_un (by omega)]; exact hold s (by omega)
          · by_cases y : s = i + 1
            · subst y; rw [pk_us]; exact hv
            · rw [pk_un y]; exact hnew s (by omega) h2
        refine br_f (nI_pos (by omega)) ⟨ii, ?_⟩
        rw [ci, hold i (by omega)]
        rcases hov i (by omega) with ⟨k, k1, k2⟩ | ⟨k1, k2⟩
        · have hu := ht.2.2.2.1 k i k1.1 k1.2.1
          have e1 : nI (nd k i) * 2 + nI (t p) = nI (nd k i * 2 + t p) := by rw [show (2 : Int32) = nI 2 from rfl, pk_mul, nI_add]
          have i1 : vp_in (nI (nd k i * 2 + t p)) 128 := vp_in_nI (by omega) (by omega)
          have c1 : (nI (nd k i * 2 + t p)).toNatClampNeg = nd k i * 2 + t p := nI_clamp (by omega)
          rw [k2]
          refine br_f (nI_pos (by omega)) ⟨ii, nm_r e1 ⟨i1, ?_⟩⟩
          rw [c1]
          have hv : da_ov N (da_L xa_wordLengths) (da_B xa_wordCodes xa_wordLengths) nd t (p + 1) (i + 1) (xa_nextNode (nd k i * 2 + t p)) := by
            rcases da_ov_dp hok ht k1 with ⟨z1, z2⟩ | ⟨k', z1, z2⟩ | z
            · exact Or.inr ⟨z1, z2⟩
            · exact Or.inl ⟨k', z1, z2⟩
            · exact absurd htp z
          refine nm_e ⟨i1, ?_⟩
          rcases da_ov_en hok ht k1 htp with ⟨y1, y2⟩ | ⟨k', y1, y2⟩
          · rw [y1]
            refine br_t da_neg1 (fin _ x hv ?_)
            rcases hx with ⟨x1, x2⟩ | hx
            · refine Or.inl ⟨x1, fun r k' a b => ?_⟩
              rcases Nat.lt_or_ge i r with v | v
              · exact x2 r k' (by omega) b
              · have : r = i := by omega
                subst this; exact y2 k'
            · exact Or.inr hx
          · rw [y2]
            exact br_f (nI_pos (by have := y1.1.1; omega)) ⟨i1, nm_e (fin _ _ hv (Or.inr ⟨i, k', by omega, rfl, y1⟩))⟩
        · rw [k1]
          refine br_t da_neg1 (fin (-1) x (Or.inr ⟨rfl, fun k w => k2 k (da_oc_s.mp w).1⟩) ?_)
          rcases hx with ⟨x1, x2⟩ | hx
          · refine Or.inl ⟨x1, fun r k' a b => ?_⟩
            rcases Nat.lt_or_ge i r with v | v
            · exact x2 r k' (by omega) b
            · have : r = i := by omega
              subst this; exact fun w => k2 k' w.1
          · exact Or.inr hx
  exact ⟨9, main 9 8 (-1) xa_openNode (by omega) (by omega) (fun s hs => rfl) (fun s h1 h2 => by omega) (Or.inl ⟨rfl, fun r k h1 h2 => by omega⟩)⟩
theorem da_dx0 {N : Nat} {L : Nat → Nat} {B : Nat → Nat → Nat} {nd : Nat → Nat → Nat} {t : Nat → Nat} {on lw wt st : Nat → Int32} (hk : da_ok N L B) (hN : 0 < N) (hn : da_ndok N L B nd) (h0 : on 0 = 0) (h1 : ∀ r, 1 ≤ r → r < 8 → on r = -1) (h2 : lw 0 = -1) (h3 : wt 0 = 0) : da_dx N L B nd t 0 0 on lw wt 0 0 st := by
  refine ⟨fun r hr => ?_, fun q hq => ?_, [], 0, rfl, Nat.le_refl _, rfl, rfl, fun j hj => by simp at hj, fun _ => ⟨fun l _ => List.nil_prefix, fun S' hs => hs [] ⟨0, Nat.le_refl _, Or.inl rfl, rfl⟩⟩, fun _ => rfl⟩
  · by_cases y : r = 0
    · subst y
      refine Or.inl ⟨0, ⟨hN, by have := hk.2.1 0 hN; omega, by omega, ⟨[], rfl⟩, fun j hj => by omega⟩, ?_⟩
      rw [h0, hn.1 0]; rfl
    · exact Or.inr ⟨h1 r (by omega) hr, fun k w => by have := w.2.2.1; omega⟩
  · have : q = 0 := by omega
    subst this
    exact Or.inl ⟨[], rfl, h3, Or.inl ⟨rfl, h2⟩⟩
theorem xw_startDecoder {N : Nat} {nd : Nat → Nat → Nat} {post : SX → Prop} (hk : da_ok N (da_L xa_wordLengths) (da_B xa_wordCodes xa_wordLengths)) (hN : 0 < N) (hn : da_ndok N (da_L xa_wordLengths) (da_B xa_wordCodes xa_wordLengths) nd)
    (h : ∀ on lw wt, (∀ t, da_dx N (da_L xa_wordLengths) (da_B xa_wordCodes xa_wordLengths) nd t 0 0 on lw wt 0 0 xa_settled) → post (xf_maxWords, xf_maxLength, xf_textCapacity, xf_wordCount, xf_nodeCount, xf_found, xf_codeDelay, xf_witnessSize, xf_queueCount, xf_textSize, 1, 0, 0, 0, 0, xa_wordCodes, xa_wordLengths, xa_nextNode, xa_wordEnd, xa_wordDelays, xa_witness, xa_witnessWords, xa_witnessCounts, xa_witnessRest, xa_startNodes, xa_pairSeen, xa_pairHeight, xa_queuePair, xa_queueFrom, xa_queueDepth, xa_queueGroup, xa_queueBit, xa_text, xa_ways, on, lw, wt, xa_settled)) :
    wpX_startDecoder post (xf_maxWords, xf_maxLength, xf_textCapacity, xf_wordCount, xf_nodeCount, xf_found, xf_codeDelay, xf_witnessSize, xf_queueCount, xf_textSize, xf_decoderOn, xf_decoderDone, xf_readSize, xf_settledAt, xf_settledSize, xa_wordCodes, xa_wordLengths, xa_nextNode, xa_wordEnd, xa_wordDelays, xa_witness, xa_witnessWords, xa_witnessCounts, xa_witnessRest, xa_startNodes, xa_pairSeen, xa_pairHeight, xa_queuePair, xa_queueFrom, xa_queueDepth, xa_queueGroup, xa_queueBit, xa_text, xa_ways, xa_openNode, xa_lastWord, xa_wordsTo, xa_settled) := by
  have main : ∀ f r on, 1 ≤ r → r ≤ 8 → 8 - r < f → on 0 = 0 → (∀ s, 1 ≤ s → s < r → on s = -1) → wX_startDecoder_34 post xf_maxWords xf_maxLength xf_textCapacity xf_wordCount xf_nodeCount xf_found xf_codeDelay xf_witnessSize xf_queueCount xf_textSize 1 0 0 0 0 f (nI r) xa_wordCodes xa_wordLengths xa_nextNode xa_wordEnd xa_wordDelays xa_witness xa_witnessWords xa_witnessCounts xa_witnessRest xa_startNodes xa_pairSeen xa_pairHeight xa_queuePair xa_queueFrom xa_queueDepth xa_queueGroup xa_queueBit xa_text xa_ways on xa_lastWord xa_wordsTo xa_settled := by
    intro f
    induction f with
    | zero => intro r on _ _ h0; omega
    | succ f ih =>
      intro r on hr1 hr hf h0 h1
      have cr : (nI r).toNatClampNeg = r := nI_clamp (by omega)
      refine pk_le 8 r (fun q => ?_) (fun q => ?_)
      · refine nm_e (nm_e (h on _ _ (fun t => da_dx0 hk hN hn h0 (fun s a b => h1 s a (by omega)) pk_us pk_us)))
      · rw [cr]
        refine ⟨vp_in_nI (by omega) (by omega), nm_e (nm_r (nI_1 r) (ih (r + 1) _ (by omega) (by omega) (by omega) ?_ (fun s a b => ?_)))⟩
        · rw [pk_un (by omega)]; exact h0
        · by_cases e : s = r
          · subst e; exact pk_us
          · rw [pk_un e]; exact h1 s a (by omega)
  exact nm_e ⟨8, main 8 1 _ (by omega) (by omega) (by omega) pk_us (fun s a b => by omega)⟩
end
end
section
/-! decode and finish -/
def da_go (N : Nat) (L : Nat → Nat) (B : Nat → Nat → Nat) (t : Nat → Nat) (T p : Nat) : Prop := p < T ∧ da_can N L B t p
def da_run (P : Nat → Prop) (n p m : Nat) : Prop := m ≤ n ∧ (∀ j, j < m → P (p + j)) ∧ (m = n ∨ ¬ P (p + m))
theorem da_run_ex (P : Nat → Prop) (p : Nat) : ∀ n, ∃ m, da_run P n p m
  | 0 => ⟨0, Nat.le_refl _, fun j hj => by omega, Or.inl rfl⟩
  | n + 1 => by
    obtain ⟨m, h1, h2, h3⟩ := da_run_ex P p n
    rcases h3 with h3 | h3
    · subst h3
      rcases Classical.em (P (p + m)) with q | q
      · refine ⟨m + 1, Nat.le_refl _, fun j hj => ?_, Or.inl rfl⟩
        rcases Nat.lt_or_ge j m with y | y
        · exact h2 j y
        · have : j = m := by omega
          subst this; exact q
      · exact ⟨m, by omega, h2, Or.inr q⟩
    · exact ⟨m, by omega, h2, Or.inr h3⟩
section
variable {xf_maxWords xf_maxLength xf_textCapacity xf_wordCount xf_nodeCount xf_found xf_codeDelay xf_witnessSize xf_queueCount xf_textSize xf_decoderOn xf_decoderDone xf_readSize xf_settledAt xf_settledSize : Int32} {xa_wordCodes xa_wordLengths xa_nextNode xa_wordEnd xa_wordDelays xa_witness xa_witnessWords xa_witnessCounts xa_witnessRest xa_pairSeen xa_pairHeight xa_queuePair xa_queueFrom xa_queueDepth xa_queueGroup xa_queueBit xa_text xa_ways xa_openNode xa_lastWord xa_wordsTo xa_settled : Nat → Int32} {xa_startNodes : Nat → Int64}
theorem xw_dec34 {N nc T n m p0 : Nat} {nd : Nat → Nat → Nat} {t : Nat → Nat} {post : Int32 → SX → Prop} (hc : da_cok N xa_wordCodes xa_wordLengths) (hN : 0 < N) (ht : da_tri N (da_L xa_wordLengths) (da_B xa_wordCodes xa_wordLengths) nd nc xa_nextNode xa_wordEnd) (hna : ∀ bs, ¬ da_ay N (da_L xa_wordLengths) (da_B xa_wordCodes xa_wordLengths) bs) (hT : T ≤ 256) (hn : n ≤ 64) (htx : ∀ x, x < T → xa_text x = nI (t x) ∧ t x < 2) (hrun : da_run (da_go N (da_L xa_wordLengths) (da_B xa_wordCodes xa_wordLengths) t T) n p0 m)
    (h : ∀ on lw wt sa ss st, p0 + m ≤ T → da_dx N (da_L xa_wordLengths) (da_B xa_wordCodes xa_wordLengths) nd t (p0 + m) 0 on lw wt sa ss st → post (nI m) (xf_maxWords, xf_maxLength, xf_textCapacity, xf_wordCount, xf_nodeCount, xf_found, xf_codeDelay, xf_witnessSize, xf_queueCount, nI T, xf_decoderOn, xf_decoderDone, nI (p0 + m), sa, ss, xa_wordCodes, xa_wordLengths, xa_nextNode, xa_wordEnd, xa_wordDelays, xa_witness, xa_witnessWords, xa_witnessCounts, xa_witnessRest, xa_startNodes, xa_pairSeen, xa_pairHeight, xa_queuePair, xa_queueFrom, xa_queueDepth, xa_queueGroup, xa_queueBit, xa_text, xa_ways, on, lw, wt, st)) :
    ∀ f c on lw wt sa ss st, c ≤ m → n - c < f → p0 + c ≤ T → da_dx N (da_L xa_wordLengths) (da_B xa_wordCodes xa_wordLengths) nd t (p0 + c) 0 on lw wt sa ss st →
      wX_decode_34 post (nI n) f (nI c) (nI c) xf_maxWords xf_maxLength xf_textCapacity xf_wordCount xf_nodeCount xf_found xf_codeDelay xf_witnessSize xf_queueCount (nI T) xf_decoderOn xf_decoderDone (nI (p0 + c)) sa ss xa_wordCodes xa_wordLengths xa_nextNode xa_wordEnd xa_wordDelays xa_witness xa_witnessWords xa_witnessCounts xa_witnessRest xa_startNodes xa_pairSeen xa_pairHeight xa_queuePair xa_queueFrom xa_queueDepth xa_queueGroup xa_queueBit xa_text xa_ways on lw wt st := by
  have hok := da_cok_ok hc
  obtain ⟨r1, r2, r3⟩ := hrun
  intro f
  induction f with
  | zero => intro c on lw wt sa ss st _ h0; omega
  | succ f ih =>
    intro c on lw wt sa ss st hcm hf hpT hdx
    have stop : c = m → post (nI c) (xf_maxWords, xf_maxLength, xf_textCapacity, xf_wordCount, xf_nodeCount, xf_found, xf_codeDelay, xf_witnessSize, xf_queueCount, nI T, xf_decoderOn, xf_decoderDone, nI (p0 + c), sa, ss, xa_wordCodes, xa_wordLengths, xa_nextNode, xa_wordEnd, xa_wordDelays, xa_witness, xa_witnessWords, xa_witnessCounts, xa_witnessRest, xa_startNodes, xa_pairSeen, xa_pairHeight, xa_queuePair, xa_queueFrom, xa_queueDepth, xa_queueGroup, xa_queueBit, xa_text, xa_ways, on, lw, wt, st) := by
      intro e; subst e
      exact h on lw wt sa ss st hpT hdx
    refine pk_le n c (fun q => stop (by omega)) (fun q => ?_)
    refine pk_le T (p0 + c) (fun q2 => stop ?_) (fun q2 => ?_)
    · rcases Nat.lt_or_ge c m with y | y
      · have := (r2 c y).1; omega
      · omega
    · have cp : (nI (p0 + c)).toNatClampNeg = p0 + c := nI_clamp (by omega)
      obtain ⟨t1, t2⟩ := htx (p0 + c) q2
      refine ⟨vp_in_nI (by omega) (by omega), nm_r (e' := nI (t (p0 + c))) (by rw [cp]; exact t1) ?_⟩
      refine xw_canRead (nd := nd) hok ht t2 hdx.1 (fun w => ?_) (fun w => ?_)
      · refine br_f da_10 (xw_readBit (nd := nd) hc hN ht hna (by omega) t2 w hdx (fun on lw wt sa ss st hd => nm_r (nI_1 c) (nm_r (nI_1 c) ?_)))
        have lt : c < m := by
          rcases Nat.lt_or_ge c m with y | y
          · exact y
          · exfalso
            have : c = m := by omega
            subst this
            rcases r3 with r3 | r3
            · omega
            · exact r3 ⟨q2, w⟩
        exact ih (c + 1) on lw wt sa ss st (by omega) (by omega) (by omega) hd
      · refine br_t rfl (stop ?_)
        rcases Nat.lt_or_ge c m with y | y
        · exact absurd (r2 c y).2 w
        · omega
end
section
variable {yf_maxWords yf_maxLength yf_capacity yf_n yf_verdict yf_witLen yf_textLen yf_pos yf_finished yf_settledN yf_opens : Int32} {ya_word ya_wlen ya_delays ya_wit ya_text ya_near ya_life ya_set ya_next ya_ways ya_msg ya_settled : Nat → Int32}
theorem yw_dec33 {N T n m p0 : Nat} {t : Nat → Nat} {post : Int32 → SY → Prop} (hc : da_cok N ya_word ya_wlen) (hs : da_sc 0 T t yf_verdict yf_witLen yf_textLen ya_text ya_wit) (eT : yf_textLen = nI T) (efin : yf_finished = 0) (hn : n ≤ 64) (hrun : da_run (da_go N (da_L ya_wlen) (da_B ya_word ya_wlen) t T) n p0 m)
    (h : ∀ opens settledN ways msg settled, post (nI m) (yf_maxWords, yf_maxLength, yf_capacity, nI N, yf_verdict, yf_witLen, yf_textLen, nI (p0 + m), yf_finished, settledN, opens, ya_word, ya_wlen, ya_delays, ya_wit, ya_text, ya_near, ya_life, ya_set, ya_next, ways, msg, settled)) :
    ∀ f c opens settledN ways msg settled, c ≤ m → n - c < f → p0 + c ≤ T →
      wY_decode_33 post (nI n) f (nI c) yf_maxWords yf_maxLength yf_capacity (nI N) yf_verdict yf_witLen yf_textLen (nI (p0 + c)) yf_finished settledN opens ya_word ya_wlen ya_delays ya_wit ya_text ya_near ya_life ya_set ya_next ways msg settled := by
  have hok := da_cok_ok hc
  have hM := da_sc_le hs
  obtain ⟨r1, r2, r3⟩ := hrun
  intro f
  induction f with
  | zero => intro c opens settledN ways msg settled _ h0; omega
  | succ f ih =>
    intro c opens settledN ways msg settled hcm hf hpT
    refine pk_le n c (fun q => ?_) (fun q => ?_)
    · have e : c = m := by omega
      have e2 : n = m := by omega
      subst e; subst e2
      exact h opens settledN ways msg settled
    · have stop : ∀ opens settledN ways msg settled, c = m → post (nI c) (yf_maxWords, yf_maxLength, yf_capacity, nI N, yf_verdict, yf_witLen, yf_textLen, nI (p0 + c), yf_finished, settledN, opens, ya_word, ya_wlen, ya_delays, ya_wit, ya_text, ya_near, ya_life, ya_set, ya_next, ways, msg, settled) := by
        intro opens settledN ways msg settled e; subst e
        exact h opens settledN ways msg settled
      have eqs : ∀ (x : Int32), x = yf_textLen → x = nI T := fun x hx => hx.trans eT
      refine pk_lt (p0 + c) T (fun q2 => ?_) (fun q2 => stop _ _ _ _ _ ?_) rfl eT
      · rw [nI_1 (p0 + c)]
        refine yw_settle (fin := 0) (e := p0 + c + 1) hc hs (by omega) (by omega) efin (fun S k ways' msg' settled' h1 h2 h3 h4 h5 => ?_)
        have kl : k ≤ p0 + c + 1 + 1 := by rw [h1]; exact da_cn_le _ _
        refine pk_eq k 0 (fun y => stop _ _ _ _ _ ?_) (fun y => ?_)
        · rcases Nat.lt_or_ge c m with v | v
          · exfalso
            obtain ⟨_, i, i1, i2, i3⟩ := r2 c v
            have := da_cn_lt (P := fun _ => False) (Q := da_oi N (da_L ya_wlen) (da_B ya_word ya_wlen) t 0 (p0 + c + 1)) (a := i) (n := p0 + c + 1 + 1) (fun z => z) ⟨fun z => absurd rfl z, i2, i3⟩ (fun _ _ z => z.elim) (by omega)
            omega
          · omega
        · refine nm_r (nI_1 (p0 + c)) (nm_r (nI_1 c) ?_)
          have lt : c < m := by
            rcases Nat.lt_or_ge c m with v | v
            · exact v
            · exfalso
              have : c = m := by omega
              subst this
              rcases r3 with r3 | r3
              · omega
              · apply y
                rw [h1]
                refine da_cn_0 (fun i hi w => r3 ⟨q2, i, by omega, w.2.1, w.2.2⟩)
          exact ih (c + 1) _ _ ways' msg' settled' (by omega) (by omega) (by omega)
      · rcases Nat.lt_or_ge c m with y | y
        · have := (r2 c y).1; omega
        · omega
end
end
section
/-! readings of the text (component); adding, dropping and writing words on both sides -/
theorem da_or (a b : Nat) : nI a ||| nI b = nI (a ||| b) := by
  apply Int32.toBitVec_inj.mp
  rw [Int32.toBitVec_or]
  show BitVec.ofNat 32 a ||| BitVec.ofNat 32 b = BitVec.ofNat 32 (a ||| b)
  rw [BitVec.ofNat_or]
theorem da_or1 {x b : Nat} (hb : b < 2) : (x * 2) ||| b = 2 * x + b := by
  have h := Nat.shiftLeft_add_eq_or_of_lt (i := 1) (b := b) (by omega) x
  rw [Nat.shiftLeft_eq, Nat.pow_one] at h
  omega
theorem da_mask : ∀ l, l < 10 → ((1 : Int32) <<< (nI l &&& 31)) - 1 = nI (2 ^ l - 1) := by decide +kernel
def da_V (t : Nat → Nat) : Nat → Nat
  | 0 => 0
  | e + 1 => 2 * da_V t e + t e
theorem da_V_bit {t : Nat → Nat} : ∀ (e x : Nat), (∀ j, j < e → t j < 2) → x < e → da_V t e / 2 ^ x % 2 = t (e - 1 - x)
  | 0, x, _, h => by omega
  | e + 1, 0, hb, _ => by
    have := hb e (by omega)
    show (2 * da_V t e + t e) / 2 ^ 0 % 2 = t (e + 1 - 1 - 0)
    rw [Nat.pow_zero, Nat.div_one, show e + 1 - 1 - 0 = e by omega]; omega
  | e + 1, x + 1, hb, h => by
    have := hb e (by omega)
    have ih := da_V_bit e x (fun j hj => hb j (by omega)) (by omega)
    show (2 * da_V t e + t e) / 2 ^ (x + 1) % 2 = t (e + 1 - 1 - (x + 1))
    rw [Nat.pow_succ, Nat.mul_comm (2 ^ x) 2, ← Nat.div_div_eq_div_mul, show (2 * da_V t e + t e) / 2 = da_V t e by omega, ih, show e + 1 - 1 - (x + 1) = e - 1 - x by omega]
theorem da_modbits : ∀ (l a b : Nat), a % 2 ^ l = b % 2 ^ l ↔ ∀ x, x < l → a / 2 ^ x % 2 = b / 2 ^ x % 2
  | 0, a, b => ⟨fun _ x hx => by omega, fun _ => by rw [Nat.pow_zero, Nat.mod_one, Nat.mod_one]⟩
  | l + 1, a, b => by
    have ih := da_modbits l (a / 2) (b / 2)
    have e : ∀ a, a % 2 ^ (l + 1) = 2 * (a / 2 % 2 ^ l) + a % 2 := by
      intro a
      rw [Nat.pow_succ, Nat.mul_comm (2 ^ l) 2, Nat.mod_mul]
      omega
    rw [e a, e b]
    constructor
    · intro h x hx
      have h1 : a % 2 = b % 2 := by omega
      have h2 : a / 2 % 2 ^ l = b / 2 % 2 ^ l := by omega
      cases x with
      | zero => rw [Nat.pow_zero, Nat.div_one, Nat.div_one]; exact h1
      | succ x =>
        rw [Nat.pow_succ, Nat.mul_comm (2 ^ x) 2, ← Nat.div_div_eq_div_mul, ← Nat.div_div_eq_div_mul]
        exact ih.mp h2 x (by omega)
    · intro h
      have h1 := h 0 (by omega)
      rw [Nat.pow_zero, Nat.div_one, Nat.div_one] at h1
      have h2 : a / 2 % 2 ^ l = b / 2 % 2 ^ l := ih.mpr (fun x hx => by
        have := h (x + 1) (by omega)
        rw [Nat.pow_succ, Nat.mul_comm (2 ^ x) 2, ← Nat.div_div_eq_div_mul, ← Nat.div_div_eq_div_mul] at this
        exact this)
      omega
theorem da_matchV {aw al : Nat → Int32} {t : Nat → Nat} {e k w : Nat} (hb : ∀ j, j < e → t j < 2) (hl : da_L al k ≤ e) (hw : (aw k).toNatClampNeg = w) : da_V t e % 2 ^ da_L al k = w % 2 ^ da_L al k ↔ da_m (da_L al) (da_B aw al) t (e - da_L al k) k := by
  rw [da_modbits]
  unfold da_m da_B
  rw [hw]
  constructor
  · intro h j hj
    have := h (da_L al k - 1 - j) (by omega)
    rw [da_V_bit e _ hb (by omega)] at this
    rw [← this, show e - 1 - (da_L al k - 1 - j) = e - da_L al k + j by omega]
  · intro h x hx
    have := h (da_L al k - 1 - x) (by omega)
    rw [da_V_bit e x hb (by omega)]
    rw [show da_L al k - 1 - (da_L al k - 1 - x) = x by omega, show e - da_L al k + (da_L al k - 1 - x) = e - 1 - x by omega] at this
    exact this
section
variable {xf_maxWords xf_maxLength xf_textCapacity xf_wordCount xf_nodeCount xf_found xf_codeDelay xf_witnessSize xf_queueCount xf_textSize xf_decoderOn xf_decoderDone xf_readSize xf_settledAt xf_settledSize : Int32} {xa_wordCodes xa_wordLengths xa_nextNode xa_wordEnd xa_wordDelays xa_witness xa_witnessWords xa_witnessCounts xa_witnessRest xa_pairSeen xa_pairHeight xa_queuePair xa_queueFrom xa_queueDepth xa_queueGroup xa_queueBit xa_text xa_ways xa_openNode xa_lastWord xa_wordsTo xa_settled : Nat → Int32} {xa_startNodes : Nat → Int64}
theorem xw_wt5 {N e : Nat} {t : Nat → Nat} {G : Nat → Nat → Nat} {post : Int32 → Prop} (hc : da_cok N xa_wordCodes xa_wordLengths) (he : e ≤ 256) (he1 : 1 ≤ e) (hb : ∀ j, j < e → t j < 2) (hG : da_G N (da_L xa_wordLengths) (da_B xa_wordCodes xa_wordLengths) t G)
    (hw : ∀ x, x < e → xa_ways x = nI (min (G 0 x) 1000000)) (h : post (nI (min (G 0 e) 1000000))) :
    ∀ f k, k ≤ N → N - k < f → wX_waysTo_5 post (nI e) (nI (da_V t e % 256)) xf_maxWords xf_maxLength xf_textCapacity (nI N) xf_nodeCount xf_found xf_codeDelay xf_witnessSize xf_queueCount xf_textSize xf_decoderOn xf_decoderDone xf_readSize xf_settledAt xf_settledSize xa_wordCodes xa_wordLengths xa_nextNode xa_wordEnd xa_wordDelays xa_witness xa_witnessWords xa_witnessCounts xa_witnessRest xa_startNodes xa_pairSeen xa_pairHeight xa_queuePair xa_queueFrom xa_queueDepth xa_queueGroup xa_queueBit xa_text xa_ways xa_openNode xa_lastWord xa_wordsTo xa_settled f (nI (da_sm (fun x => min (da_if (da_m (da_L xa_wordLengths) (da_B xa_wordCodes xa_wordLengths) t (0 + e - da_L xa_wordLengths x) x ∧ da_L xa_wordLengths x ≤ e) (G 0 (e - da_L xa_wordLengths x))) 1000000) k)) (nI k) := by
  have hok := da_cok_ok hc
  have hN := hc.1
  intro f
  induction f with
  | zero => intro k _ h0; omega
  | succ f ih =>
    intro k hk hf
    have sml : ∀ k, k ≤ N → da_sm (fun x => min (da_if (da_m (da_L xa_wordLengths) (da_B xa_wordCodes xa_wordLengths) t (0 + e - da_L xa_wordLengths x) x ∧ da_L xa_wordLengths x ≤ e) (G 0 (e - da_L xa_wordLengths x))) 1000000) k ≤ 8000000 := by
      intro k hk
      have := da_sm_le (f := fun x => min (da_if (da_m (da_L xa_wordLengths) (da_B xa_wordCodes xa_wordLengths) t (0 + e - da_L xa_wordLengths x) x ∧ da_L xa_wordLengths x ≤ e) (G 0 (e - da_L xa_wordLengths x))) 1000000) (C := 1000000) (n := k) (fun x _ => Nat.min_le_right _ _)
      have : k * 1000000 ≤ 8 * 1000000 := Nat.mul_le_mul_right _ (by omega)
      omega
    have s0 := sml k hk
    refine pk_le N k (fun q => ?_) (fun q => ?_)
    · have : k = N := by omega
      subst this
      have eG : min (G 0 e) 1000000 = min (da_sm (fun x => min (da_if (da_m (da_L xa_wordLengths) (da_B xa_wordCodes xa_wordLengths) t (0 + e - da_L xa_wordLengths x) x ∧ da_L xa_wordLengths x ≤ e) (G 0 (e - da_L xa_wordLengths x))) 1000000) k) 1000000 := by
        rw [da_sm_cap, da_G_last hok hG e e 0 (Nat.le_refl _), da_if_f (by omega), Nat.zero_add]
      rw [eG] at h
      generalize da_sm (fun x => min (da_if (da_m (da_L xa_wordLengths) (da_B xa_wordCodes xa_wordLengths) t (0 + e - da_L xa_wordLengths x) x ∧ da_L xa_wordLengths x ≤ e) (G 0 (e - da_L xa_wordLengths x))) 1000000) k = sm at *
      refine pk_le sm 1000000 (fun w => ?_) (fun w => ?_)
      · rw [Nat.min_eq_left w] at h; exact h
      · rw [Nat.min_eq_right (by omega)] at h; exact h
    · obtain ⟨e2, l1, l2, w, w1, w2, w3, w4, w5⟩ := da_cok_v hc q
      have s1 := sml (k + 1) (by omega)
      have ck : (nI k).toNatClampNeg = k := nI_clamp (by omega)
      have ik : vp_in (nI k) 8 := vp_in_nI (by omega) (by omega)
      have su : da_sm (fun x => min (da_if (da_m (da_L xa_wordLengths) (da_B xa_wordCodes xa_wordLengths) t (0 + e - da_L xa_wordLengths x) x ∧ da_L xa_wordLengths x ≤ e) (G 0 (e - da_L xa_wordLengths x))) 1000000) (k + 1) = da_sm (fun x => min (da_if (da_m (da_L xa_wordLengths) (da_B xa_wordCodes xa_wordLengths) t (0 + e - da_L xa_wordLengths x) x ∧ da_L xa_wordLengths x ≤ e) (G 0 (e - da_L xa_wordLengths x))) 1000000) k + min (da_if (da_m (da_L xa_wordLengths) (da_B xa_wordCodes xa_wordLengths) t (0 + e - da_L xa_wordLengths k) k ∧ da_L xa_wordLengths k ≤ e) (G 0 (e - da_L xa_wordLengths k))) 1000000 := rfl
      have next := ih (k + 1) (by omega) (by omega)
      rw [su] at next
      refine ⟨ik, nm_r (e' := nI (da_L xa_wordLengths k)) (by rw [ck]; exact e2) ?_⟩
      refine pk_lt e (da_L xa_wordLengths k) (fun y => ?_) (fun y => ?_)
      · rw [da_if_f (fun z => by omega)] at next
        exact nm_r (nI_1 k) next
      · refine nm_r (da_mask _ (by omega)) ⟨ik, ?_⟩
        have p8 : 2 ^ da_L xa_wordLengths k ≤ 256 := by
          have : 2 ^ da_L xa_wordLengths k ≤ 2 ^ 8 := Nat.pow_le_pow_right (by omega) l2
          omega
        have p0 : 0 < 2 ^ da_L xa_wordLengths k := Nat.two_pow_pos _
        have m1 : nI (da_V t e % 256) &&& nI (2 ^ da_L xa_wordLengths k - 1) = nI (da_V t e % 2 ^ da_L xa_wordLengths k) := by
          rw [pk_andN (by omega) (da_L xa_wordLengths k) (pk_tn (by omega))]
          refine congrArg nI (Nat.mod_mod_of_dvd _ ?_)
          have : (256 : Nat) = 2 ^ 8 := by decide
          rw [this]
          exact Nat.pow_dvd_pow 2 l2
        have m2 : nI w &&& nI (2 ^ da_L xa_wordLengths k - 1) = nI (w % 2 ^ da_L xa_wordLengths k) := pk_andN (by omega) (da_L xa_wordLengths k) (pk_tn (by omega))
        rw [ck, w1, m1, m2]
        have b1 : da_V t e % 2 ^ da_L xa_wordLengths k < 256 := Nat.lt_of_lt_of_le (Nat.mod_lt _ p0) p8
        have b2 : w % 2 ^ da_L xa_wordLengths k < 256 := Nat.lt_of_lt_of_le (Nat.mod_lt _ p0) p8
        have mv := da_matchV (aw := xa_wordCodes) (al := xa_wordLengths) (k := k) hb y w5
        refine pk_eq (da_V t e % 2 ^ da_L xa_wordLengths k) (w % 2 ^ da_L xa_wordLengths k) (fun z => ?_) (fun z => ?_)
        · have hm := mv.mp z
          rw [pk_sub y, nI_clamp (show e - da_L xa_wordLengths k < 2 ^ 31 by omega), hw _ (by omega)]
          refine ⟨vp_in_nI (by omega) (by omega), nm_r (nI_add _ _) (nm_r (nI_1 k) ?_)⟩
          rw [da_if_t ⟨by rw [Nat.zero_add]; exact hm, y⟩] at next
          exact next
        · rw [da_if_f (fun v => z (mv.mpr (by have := v.1; rwa [Nat.zero_add] at this)))] at next
          exact nm_r (nI_1 k) next
theorem xw_readings {N T : Nat} {t : Nat → Nat} {G : Nat → Nat → Nat} {post : Int32 → SX → Prop} (hc : da_cok N xa_wordCodes xa_wordLengths) (hT : T ≤ 256) (htx : ∀ x, x < T → xa_text x = nI (t x) ∧ t x < 2) (hG : da_G N (da_L xa_wordLengths) (da_B xa_wordCodes xa_wordLengths) t G)
    (h : ∀ ways, post (nI (min (G 0 T) 1000000)) (xf_maxWords, xf_maxLength, xf_textCapacity, nI N, xf_nodeCount, xf_found, xf_codeDelay, xf_witnessSize, xf_queueCount, nI T, xf_decoderOn, xf_decoderDone, xf_readSize, xf_settledAt, xf_settledSize, xa_wordCodes, xa_wordLengths, xa_nextNode, xa_wordEnd, xa_wordDelays, xa_witness, xa_witnessWords, xa_witnessCounts, xa_witnessRest, xa_startNodes, xa_pairSeen, xa_pairHeight, xa_queuePair, xa_queueFrom, xa_queueDepth, xa_queueGroup, xa_queueBit, xa_text, ways, xa_openNode, xa_lastWord, xa_wordsTo, xa_settled)) : wpX_readings post (xf_maxWords, xf_maxLength, xf_textCapacity, nI N, xf_nodeCount, xf_found, xf_codeDelay, xf_witnessSize, xf_queueCount, nI T, xf_decoderOn, xf_decoderDone, xf_readSize, xf_settledAt, xf_settledSize, xa_wordCodes, xa_wordLengths, xa_nextNode, xa_wordEnd, xa_wordDelays, xa_witness, xa_witnessWords, xa_witnessCounts, xa_witnessRest, xa_startNodes, xa_pairSeen, xa_pairHeight, xa_queuePair, xa_queueFrom, xa_queueDepth, xa_queueGroup, xa_queueBit, xa_text, xa_ways, xa_openNode, xa_lastWord, xa_wordsTo, xa_settled) := by
  have hok := da_cok_ok hc
  have hN := hc.1
  have main : ∀ f e ways, e ≤ T → T - e < f → (∀ x, x ≤ e → ways x = nI (min (G 0 x) 1000000)) → wX_readings_11 post xf_maxWords xf_maxLength xf_textCapacity (nI N) xf_nodeCount xf_found xf_codeDelay xf_witnessSize xf_queueCount (nI T) xf_decoderOn xf_decoderDone xf_readSize xf_settledAt xf_settledSize f (nI (da_V t e % 256)) (nI (e + 1)) xa_wordCodes xa_wordLengths xa_nextNode xa_wordEnd xa_wordDelays xa_witness xa_witnessWords xa_witnessCounts xa_witnessRest xa_startNodes xa_pairSeen xa_pairHeight xa_queuePair xa_queueFrom xa_queueDepth xa_queueGroup xa_queueBit xa_text ways xa_openNode xa_lastWord xa_wordsTo xa_settled := by
    intro f
    induction f with
    | zero => intro e ways _ h0; omega
    | succ f ih =>
      intro e ways he hf hw
      have cT : (nI T).toNatClampNeg = T := nI_clamp (by omega)
      refine pk_lt T (e + 1) (fun q => ?_) (fun q => ?_)
      · have : e = T := by omega
        subst this
        rw [cT, hw e (Nat.le_refl _)]
        exact ⟨vp_in_nI (by omega) (by omega), h ways⟩
      · have ce : (nI e).toNatClampNeg = e := nI_clamp (by omega)
        obtain ⟨t1, t2⟩ := htx e (by omega)
        rw [nI_pred]
        have hrec : ((nI (da_V t e % 256) <<< ((1 : Int32) &&& 31)) ||| xa_text (nI e).toNatClampNeg) &&& 255 = nI (da_V t (e + 1) % 256) := by
          rw [ce, t1, pk_shlN _ 1 (by decide) (by omega), Nat.pow_one, da_or, da_or1 t2, pk_andN (by omega) 8 (by decide)]
          refine congrArg nI ?_
          show (2 * (da_V t e % 256) + t e) % 2 ^ 8 = (2 * da_V t e + t e) % 256
          have : (2 : Nat) ^ 8 = 256 := by decide
          omega
        have c1 : (nI (e + 1)).toNatClampNeg = e + 1 := nI_clamp (by omega)
        refine ⟨vp_in_nI (by omega) (by omega), nm_r hrec ?_⟩
        refine ⟨N + 1, xw_wt5 hc (by omega) (by omega) (fun j hj => (htx j (by omega)).2) hG (fun x hx => hw x (by omega)) ?_ (N + 1) 0 (by omega) (by omega)⟩
        rw [c1]
        refine ⟨vp_in_nI (by omega) (by omega), nm_e (nm_r (nI_1 (e + 1)) (ih (e + 1) _ (by omega) (by omega) (fun x hx => ?_)))⟩
        by_cases y : x = e + 1
        · subst y; exact pk_us
        · rw [pk_un y]; exact hw x (by omega)
  refine nm_e ⟨T + 1, main (T + 1) 0 _ (by omega) (by omega) (fun x hx => ?_)⟩
  have : x = 0 := by omega
  subst this
  rw [pk_us, hG 0 0, da_if_t rfl]
  have : da_sm (fun k => da_if (da_m (da_L xa_wordLengths) (da_B xa_wordCodes xa_wordLengths) t 0 k ∧ da_L xa_wordLengths k ≤ 0) (G (0 + da_L xa_wordLengths k) (0 - da_L xa_wordLengths k))) N = 0 := by
    rw [da_sm_eq (g := fun _ => 0) (fun k hk => da_if_f (fun w => by have := hok.2.1 k hk; omega)), da_sm_0]
  rw [this]
  rfl
end
end
section
/-! adding, dropping and writing words on both sides -/
theorem da_mask1 : ∀ m, m < 9 → ((1 : Int32) <<< ((nI m + 1) &&& 31)) - 1 = nI (2 ^ (m + 1) - 1) := by decide +kernel
theorem da_uu {f : Nat → Int32} {k : Nat} {x y : Int32} : upd (upd f k x) k y = upd f k y := by
  funext j
  by_cases e : j = k
  · subst e; rw [pk_us, pk_us]
  · rw [pk_un e, pk_un e, pk_un e]
/-- the word codes that are refused -/
def da_bad (ml : Nat) (x : Int32) : Prop := x < 2 ∨ ¬ x ≤ nI (2 ^ (ml + 1) - 1)
def da_lw (w l : Nat) : Prop := 1 ≤ l ∧ l ≤ 8 ∧ 2 ^ l ≤ w ∧ w < 2 ^ (l + 1)
theorem da_lw_ex {w : Nat} (h1 : 2 ≤ w) (h2 : w < 512) : ∃ l, da_lw w l := by
  have key : ∀ n w, 1 ≤ w → w < 2 ^ (n + 1) → ∃ l, l ≤ n ∧ 2 ^ l ≤ w ∧ w < 2 ^ (l + 1) := by
    intro n
    induction n with
    | zero => intro w a b; exact ⟨0, Nat.le_refl _, by simpa using a, b⟩
    | succ n ih =>
      intro w a b
      rcases Nat.lt_or_ge w (2 ^ (n + 1)) with y | y
      · obtain ⟨l, q1, q2⟩ := ih w a y
        exact ⟨l, by omega, q2⟩
      · exact ⟨n + 1, Nat.le_refl _, y, b⟩
  obtain ⟨l, q1, q2, q3⟩ := key 8 w (by omega) (by simpa using h2)
  refine ⟨l, ?_, q1, q2, q3⟩
  rcases Nat.eq_zero_or_pos l with z | z
  · subst z; simp at q3; omega
  · exact z
theorem da_bad_n {ml : Nat} {x : Int32} (hm : ml ≤ 8) (h : ¬ da_bad ml x) : ∃ w l, x = nI w ∧ w < 512 ∧ da_lw w l := by
  have p9 : 2 ^ (ml + 1) ≤ 2 ^ 9 := Nat.pow_le_pow_right (by omega) (by omega)
  have h1 : ¬ x < 2 := fun z => h (Or.inl z)
  have h2 : x ≤ nI (2 ^ (ml + 1) - 1) := by
    rcases Classical.em (x ≤ nI (2 ^ (ml + 1) - 1)) with z | z
    · exact z
    · exact absurd (Or.inr z) h
  have h0 : ¬ x < 0 := fun z => h1 (Int32.lt_trans z (by decide))
  obtain ⟨w, hw, rfl⟩ := nI_of h0
  have w1 : 2 ≤ w := by
    rcases Nat.lt_or_ge w 2 with y | y
    · exact absurd (nI_lt (b := 2) y (by omega)) h1
    · exact y
  have w2 := (nI_leI hw (by omega)).mp h2
  obtain ⟨l, hl⟩ := da_lw_ex w1 (by omega)
  exact ⟨w, l, rfl, by omega, hl⟩
theorem da_lw_sh {w l b : Nat} (h : da_lw w l) : (b ≤ l ↔ 1 ≤ w / 2 ^ b) ∧ (b = l → w / 2 ^ b = 1) := by
  obtain ⟨h1, h2, h3, h4⟩ := h
  refine ⟨⟨fun q => ?_, fun q => ?_⟩, fun q => ?_⟩
  · have : 2 ^ b ≤ 2 ^ l := Nat.pow_le_pow_right (by omega) q
    exact (Nat.le_div_iff_mul_le (Nat.two_pow_pos b)).mpr (by omega)
  · rcases Nat.lt_or_ge l b with y | y
    · have : 2 ^ (l + 1) ≤ 2 ^ b := Nat.pow_le_pow_right (by omega) y
      have := Nat.div_eq_of_lt (show w < 2 ^ b by omega)
      omega
    · exact y
  · subst q
    rw [Nat.pow_succ] at h4
    exact Nat.div_eq_of_lt_le (by omega) (by omega)
section
variable {xf_maxWords xf_maxLength xf_textCapacity xf_wordCount xf_nodeCount xf_found xf_codeDelay xf_witnessSize xf_queueCount xf_textSize xf_decoderOn xf_decoderDone xf_readSize xf_settledAt xf_settledSize : Int32} {xa_wordCodes xa_wordLengths xa_nextNode xa_wordEnd xa_wordDelays xa_witness xa_witnessWords xa_witnessCounts xa_witnessRest xa_pairSeen xa_pairHeight xa_queuePair xa_queueFrom xa_queueDepth xa_queueGroup xa_queueBit xa_text xa_ways xa_openNode xa_lastWord xa_wordsTo xa_settled : Nat → Int32} {xa_startNodes : Nat → Int64}
theorem xw_bitsOf {w l : Nat} {post : Int32 → Prop} (hl : da_lw w l) (hw : w < 512) (h : post (nI l)) : wpX_bitsOf post (xf_maxWords, xf_maxLength, xf_textCapacity, xf_wordCount, xf_nodeCount, xf_found, xf_codeDelay, xf_witnessSize, xf_queueCount, xf_textSize, xf_decoderOn, xf_decoderDone, xf_readSize, xf_settledAt, xf_settledSize, xa_wordCodes, xa_wordLengths, xa_nextNode, xa_wordEnd, xa_wordDelays, xa_witness, xa_witnessWords, xa_witnessCounts, xa_witnessRest, xa_startNodes, xa_pairSeen, xa_pairHeight, xa_queuePair, xa_queueFrom, xa_queueDepth, xa_queueGroup, xa_queueBit, xa_text, xa_ways, xa_openNode, xa_lastWord, xa_wordsTo, xa_settled) (nI w) := by
  have main : ∀ f i, i ≤ l → l - i < f → wX_bitsOf_4 post xf_maxWords xf_maxLength xf_textCapacity xf_wordCount xf_nodeCount xf_found xf_codeDelay xf_witnessSize xf_queueCount xf_textSize xf_decoderOn xf_decoderDone xf_readSize xf_settledAt xf_settledSize xa_wordCodes xa_wordLengths xa_nextNode xa_wordEnd xa_wordDelays xa_witness xa_witnessWords xa_witnessCounts xa_witnessRest xa_startNodes xa_pairSeen xa_pairHeight xa_queuePair xa_queueFrom xa_queueDepth xa_queueGroup xa_queueBit xa_text xa_ways xa_openNode xa_lastWord xa_wordsTo xa_settled f (nI i) (nI (w / 2 ^ i)) := by
    intro f
    induction f with
    | zero => intro i _ h0; omega
    | succ f ih =>
      intro i hi hf
      have hd : w / 2 ^ i ≤ w := Nat.div_le_self _ _
      refine pk_le (w / 2 ^ i) 1 (fun q => ?_) (fun q => ?_)
      · have : i = l := by
          rcases Nat.lt_or_ge i l with y | y
          · exfalso
            have := ((da_lw_sh (b := i + 1) hl).1).mp (by omega)
            rw [Nat.pow_succ, ← Nat.div_div_eq_div_mul] at this
            omega
          · omega
        subst this; exact h
      · have lt : i < l := by
          rcases Nat.lt_or_ge i l with y | y
          · exact y
          · have := (da_lw_sh (b := i) hl).2 (by omega)
            omega
        refine nm_r (nI_1 i) (nm_r (e' := nI (w / 2 ^ (i + 1))) ?_ (ih (i + 1) (by omega) (by omega)))
        rw [pk_shrN (by omega) _ 1 (by decide), Nat.pow_one, Nat.div_div_eq_div_mul, ← Nat.pow_succ]
  have := main (l + 1) 0 (by omega) (by omega)
  rw [Nat.pow_zero, Nat.div_one] at this
  exact ⟨l + 1, this⟩
theorem xw_addWord {mw ml N : Nat} {x : Int32} {post : Int32 → SX → Prop} (hN : N ≤ mw) (hmw : mw ≤ 8) (hml : ml ≤ 8)
    (hb : da_bad ml x → post (-2) (nI mw, nI ml, xf_textCapacity, nI N, xf_nodeCount, xf_found, xf_codeDelay, xf_witnessSize, xf_queueCount, xf_textSize, xf_decoderOn, xf_decoderDone, xf_readSize, xf_settledAt, xf_settledSize, xa_wordCodes, xa_wordLengths, xa_nextNode, xa_wordEnd, xa_wordDelays, xa_witness, xa_witnessWords, xa_witnessCounts, xa_witnessRest, xa_startNodes, xa_pairSeen, xa_pairHeight, xa_queuePair, xa_queueFrom, xa_queueDepth, xa_queueGroup, xa_queueBit, xa_text, xa_ways, xa_openNode, xa_lastWord, xa_wordsTo, xa_settled))
    (hd : ¬ da_bad ml x → (∃ k, k < N ∧ xa_wordCodes k = x) → post (-4) (nI mw, nI ml, xf_textCapacity, nI N, xf_nodeCount, xf_found, xf_codeDelay, xf_witnessSize, xf_queueCount, xf_textSize, xf_decoderOn, xf_decoderDone, xf_readSize, xf_settledAt, xf_settledSize, xa_wordCodes, xa_wordLengths, xa_nextNode, xa_wordEnd, xa_wordDelays, xa_witness, xa_witnessWords, xa_witnessCounts, xa_witnessRest, xa_startNodes, xa_pairSeen, xa_pairHeight, xa_queuePair, xa_queueFrom, xa_queueDepth, xa_queueGroup, xa_queueBit, xa_text, xa_ways, xa_openNode, xa_lastWord, xa_wordsTo, xa_settled))
    (hf : ¬ da_bad ml x → ¬ (∃ k, k < N ∧ xa_wordCodes k = x) → ¬ N < mw → post (-3) (nI mw, nI ml, xf_textCapacity, nI N, xf_nodeCount, xf_found, xf_codeDelay, xf_witnessSize, xf_queueCount, xf_textSize, xf_decoderOn, xf_decoderDone, xf_readSize, xf_settledAt, xf_settledSize, xa_wordCodes, xa_wordLengths, xa_nextNode, xa_wordEnd, xa_wordDelays, xa_witness, xa_witnessWords, xa_witnessCounts, xa_witnessRest, xa_startNodes, xa_pairSeen, xa_pairHeight, xa_queuePair, xa_queueFrom, xa_queueDepth, xa_queueGroup, xa_queueBit, xa_text, xa_ways, xa_openNode, xa_lastWord, xa_wordsTo, xa_settled))
    (hg : ¬ da_bad ml x → ¬ (∃ k, k < N ∧ xa_wordCodes k = x) → N < mw → ∀ w l, x = nI w → da_lw w l → post (nI N) (nI mw, nI ml, xf_textCapacity, nI (N + 1), xf_nodeCount, 0, 0, 0, xf_queueCount, xf_textSize, 0, 0, xf_readSize, xf_settledAt, xf_settledSize, upd xa_wordCodes N x, upd xa_wordLengths N (nI l), xa_nextNode, xa_wordEnd, xa_wordDelays, xa_witness, xa_witnessWords, upd (upd xa_witnessCounts 0 0) 1 0, xa_witnessRest, xa_startNodes, xa_pairSeen, xa_pairHeight, xa_queuePair, xa_queueFrom, xa_queueDepth, xa_queueGroup, xa_queueBit, xa_text, xa_ways, xa_openNode, xa_lastWord, xa_wordsTo, xa_settled)) :
    wpX_addWord post (nI mw, nI ml, xf_textCapacity, nI N, xf_nodeCount, xf_found, xf_codeDelay, xf_witnessSize, xf_queueCount, xf_textSize, xf_decoderOn, xf_decoderDone, xf_readSize, xf_settledAt, xf_settledSize, xa_wordCodes, xa_wordLengths, xa_nextNode, xa_wordEnd, xa_wordDelays, xa_witness, xa_witnessWords, xa_witnessCounts, xa_witnessRest, xa_startNodes, xa_pairSeen, xa_pairHeight, xa_queuePair, xa_queueFrom, xa_queueDepth, xa_queueGroup, xa_queueBit, xa_text, xa_ways, xa_openNode, xa_lastWord, xa_wordsTo, xa_settled) x := by
  refine nm_r (da_mask1 ml (by omega)) (br_c (fun z => hb (Or.inl z)) (fun z => br_c (fun z2 => ?_) (fun z2 => hb (Or.inr z2))))
  have nb : ¬ da_bad ml x := fun w => w.elim z (fun v => v z2)
  obtain ⟨w, l, e, hw, hl⟩ := da_bad_n hml nb
  subst e
  have main : ∀ f i, i ≤ N → N - i < f → (∀ k, k < i → ¬ xa_wordCodes k = nI w) → wX_addWord_26 post (nI w) (nI mw) (nI ml) xf_textCapacity (nI N) xf_nodeCount xf_found xf_codeDelay xf_witnessSize xf_queueCount xf_textSize xf_decoderOn xf_decoderDone xf_readSize xf_settledAt xf_settledSize xa_wordCodes xa_wordLengths xa_nextNode xa_wordEnd xa_wordDelays xa_witness xa_witnessWords xa_witnessCounts xa_witnessRest xa_startNodes xa_pairSeen xa_pairHeight xa_queuePair xa_queueFrom xa_queueDepth xa_queueGroup xa_queueBit xa_text xa_ways xa_openNode xa_lastWord xa_wordsTo xa_settled f (nI i) := by
    intro f
    induction f with
    | zero => intro i _ h0; omega
    | succ f ih =>
      intro i hi hf' hk
      refine pk_le N i (fun q => ?_) (fun q => ?_)
      · have nd : ¬ (∃ k, k < N ∧ xa_wordCodes k = nI w) := fun ⟨k, a, b⟩ => hk k (by omega) b
        refine pk_lt N mw (fun y => ?_) (fun y => hf nb nd (by omega))
        have cN : (nI N).toNatClampNeg = N := nI_clamp (by omega)
        have iN : vp_in (nI N) 8 := vp_in_nI (by omega) (by omega)
        rw [cN]
        refine ⟨iN, nm_e (xw_bitsOf hl hw ⟨iN, nm_e (nm_r (nI_1 N) (nm_e (nm_e ?_)))⟩)⟩
        exact hg nb nd y w l rfl hl
      · have ci : (nI i).toNatClampNeg = i := nI_clamp (by omega)
        rw [ci]
        refine ⟨vp_in_nI (by omega) (by omega), br_c (fun y => hd nb ⟨i, q, y⟩) (fun y => nm_r (nI_1 i) (ih (i + 1) (by omega) (by omega) (fun k hk' => ?_)))⟩
        rcases Nat.lt_or_ge k i with v | v
        · exact hk k v
        · have : k = i := by omega
          subst this; exact y
  exact ⟨N + 1, main (N + 1) 0 (by omega) (by omega) (fun k hk => by omega)⟩
end
section
variable {yf_maxWords yf_maxLength yf_capacity yf_n yf_verdict yf_witLen yf_textLen yf_pos yf_finished yf_settledN yf_opens : Int32} {ya_word ya_wlen ya_delays ya_wit ya_text ya_near ya_life ya_set ya_next ya_ways ya_msg ya_settled : Nat → Int32}
theorem yw_addWord {mw ml N : Nat} {x : Int32} {post : Int32 → SY → Prop} (hN : N ≤ mw) (hmw : mw ≤ 8) (hml : ml ≤ 8)
    (hb : da_bad ml x → post (-2) (nI mw, nI ml, yf_capacity, nI N, yf_verdict, yf_witLen, yf_textLen, yf_pos, yf_finished, yf_settledN, yf_opens, ya_word, ya_wlen, ya_delays, ya_wit, ya_text, ya_near, ya_life, ya_set, ya_next, ya_ways, ya_msg, ya_settled))
    (hd : ¬ da_bad ml x → (∃ k, k < N ∧ ya_word k = x) → post (-4) (nI mw, nI ml, yf_capacity, nI N, yf_verdict, yf_witLen, yf_textLen, yf_pos, yf_finished, yf_settledN, yf_opens, ya_word, ya_wlen, ya_delays, ya_wit, ya_text, ya_near, ya_life, ya_set, ya_next, ya_ways, ya_msg, ya_settled))
    (hf : ¬ da_bad ml x → ¬ (∃ k, k < N ∧ ya_word k = x) → ¬ N < mw → post (-3) (nI mw, nI ml, yf_capacity, nI N, yf_verdict, yf_witLen, yf_textLen, yf_pos, yf_finished, yf_settledN, yf_opens, ya_word, ya_wlen, ya_delays, ya_wit, ya_text, ya_near, ya_life, ya_set, ya_next, ya_ways, ya_msg, ya_settled))
    (hg : ¬ da_bad ml x → ¬ (∃ k, k < N ∧ ya_word k = x) → N < mw → ∀ w l, x = nI w → da_lw w l → post (nI N) (nI mw, nI ml, yf_capacity, nI (N + 1), 0, yf_witLen, yf_textLen, yf_pos, yf_finished, yf_settledN, yf_opens, upd ya_word N x, upd ya_wlen N (nI l), ya_delays, ya_wit, ya_text, ya_near, ya_life, ya_set, ya_next, ya_ways, ya_msg, ya_settled)) :
    wpY_addWord post (nI mw, nI ml, yf_capacity, nI N, yf_verdict, yf_witLen, yf_textLen, yf_pos, yf_finished, yf_settledN, yf_opens, ya_word, ya_wlen, ya_delays, ya_wit, ya_text, ya_near, ya_life, ya_set, ya_next, ya_ways, ya_msg, ya_settled) x := by
  refine br_c (fun z => hb (Or.inl z)) (fun z => ?_)
  rw [da_mask1 ml (by omega)]
  refine br_c (fun z2 => ?_) (fun z2 => hb (Or.inr z2))
  have nb : ¬ da_bad ml x := fun w => w.elim z (fun v => v z2)
  obtain ⟨w, l, e, hw, hl⟩ := da_bad_n hml nb
  subst e
  have main : ∀ f i, i ≤ N → N - i < f → (∀ k, k < i → ¬ ya_word k = nI w) → wY_addWord_24 post (nI w) (nI mw) (nI ml) yf_capacity (nI N) yf_verdict yf_witLen yf_textLen yf_pos yf_finished yf_settledN yf_opens ya_word ya_wlen ya_delays ya_wit ya_text ya_near ya_life ya_set ya_next ya_ways ya_msg ya_settled f (nI i) := by
    intro f
    induction f with
    | zero => intro i _ h0; omega
    | succ f ih =>
      intro i hi hf' hk
      refine pk_le N i (fun q => ?_) (fun q => ?_)
      · have nd : ¬ (∃ k, k < N ∧ ya_word k = nI w) := fun ⟨k, a, b⟩ => hk k (by omega) b
        refine pk_lt N mw (fun y => ?_) (fun y => hf nb nd (by omega))
        have cN : (nI N).toNatClampNeg = N := nI_clamp (by omega)
        have iN : vp_in (nI N) 8 := vp_in_nI (by omega) (by omega)
        rw [cN]
        refine ⟨iN, nm_e ⟨iN, nm_e ⟨9, ?_⟩⟩⟩
        have inner : ∀ f b, 1 ≤ b → b ≤ 9 → 9 - b < f → wY_addWord_87 post (nI w) (nI mw) (nI ml) yf_capacity (nI N) yf_verdict yf_witLen yf_textLen yf_pos yf_finished yf_settledN yf_opens f (nI b) (upd ya_word N (nI w)) (upd ya_wlen N (nI (min (b - 1) l))) ya_delays ya_wit ya_text ya_near ya_life ya_set ya_next ya_ways ya_msg ya_settled := by
          intro f
          induction f with
          | zero => intro b _ _ h0; omega
          | succ f ih2 =>
            intro b hb1 hb9 hfb
            refine pk_lt 8 b (fun v => ?_) (fun v => ?_)
            · have := hl.2.1
              have e : min (b - 1) l = l := by omega
              rw [e]
              refine nm_r (nI_1 N) ?_
              have := hg nb nd y w l rfl hl
              rw [nI_pred]; exact this
            · have sh := da_lw_sh (b := b) hl
              have hd2 : w / 2 ^ b ≤ w := Nat.div_le_self _ _
              have st := ih2 (b + 1) (by omega) (by omega) (by omega)
              rw [da_shr (by omega) (by omega), cN]
              refine pk_le (w / 2 ^ b) 0 (fun v2 => nm_r (nI_1 b) ?_) (fun v2 => ⟨iN, nm_e (nm_r (nI_1 b) ?_)⟩)
              · have : ¬ b ≤ l := fun q => by have := sh.1.mp q; omega
                have e : min (b + 1 - 1) l = min (b - 1) l := by omega
                rw [e] at st; exact st
              · have : b ≤ l := sh.1.mpr (by omega)
                have e : min (b + 1 - 1) l = b := by omega
                rw [e] at st
                rw [da_uu]; exact st
        exact inner 9 1 (by omega) (by omega) (by omega)
      · have ci : (nI i).toNatClampNeg = i := nI_clamp (by omega)
        rw [ci]
        refine ⟨vp_in_nI (by omega) (by omega), br_c (fun y => hd nb ⟨i, q, y⟩) (fun y => nm_r (nI_1 i) (ih (i + 1) (by omega) (by omega) (fun k hk' => ?_)))⟩
        rcases Nat.lt_or_ge k i with v | v
        · exact hk k v
        · have : k = i := by omega
          subst this; exact y
  exact ⟨N + 1, main (N + 1) 0 (by omega) (by omega) (fun k hk => by omega)⟩
end
/-! dropping -/
def da_dr (a : Nat → Int32) (k i : Nat) : Nat → Int32 := fun j => if k ≤ j ∧ j < i then a (j + 1) else a j
theorem da_dr_k {a : Nat → Int32} {k : Nat} : da_dr a k k = a := by
  funext j
  exact if_neg (by omega)
theorem da_dr_s {a : Nat → Int32} {k i : Nat} (h : k ≤ i) : upd (da_dr a k i) i (da_dr a k i (i + 1)) = da_dr a k (i + 1) := by
  funext j
  by_cases e : j = i
  · subst e
    rw [pk_us]
    unfold da_dr
    rw [if_neg (by omega), if_pos (by omega)]
  · rw [pk_un e]
    unfold da_dr
    by_cases q : k ≤ j ∧ j < i
    · rw [if_pos q, if_pos (by omega)]
    · rw [if_neg q, if_neg (by omega)]
section
variable {xf_maxWords xf_maxLength xf_textCapacity xf_wordCount xf_nodeCount xf_found xf_codeDelay xf_witnessSize xf_queueCount xf_textSize xf_decoderOn xf_decoderDone xf_readSize xf_settledAt xf_settledSize : Int32} {xa_wordCodes xa_wordLengths xa_nextNode xa_wordEnd xa_wordDelays xa_witness xa_witnessWords xa_witnessCounts xa_witnessRest xa_pairSeen xa_pairHeight xa_queuePair xa_queueFrom xa_queueDepth xa_queueGroup xa_queueBit xa_text xa_ways xa_openNode xa_lastWord xa_wordsTo xa_settled : Nat → Int32} {xa_startNodes : Nat → Int64}
theorem xw_dropWord {N k : Nat} {post : Int32 → SX → Prop} (hN : N ≤ 8) (hk : k < N)
    (h : post (nI (N - 1)) (xf_maxWords, xf_maxLength, xf_textCapacity, nI (N - 1), xf_nodeCount, 0, 0, 0, xf_queueCount, xf_textSize, 0, 0, xf_readSize, xf_settledAt, xf_settledSize, da_dr xa_wordCodes k (N - 1), da_dr xa_wordLengths k (N - 1), xa_nextNode, xa_wordEnd, xa_wordDelays, xa_witness, xa_witnessWords, upd (upd xa_witnessCounts 0 0) 1 0, xa_witnessRest, xa_startNodes, xa_pairSeen, xa_pairHeight, xa_queuePair, xa_queueFrom, xa_queueDepth, xa_queueGroup, xa_queueBit, xa_text, xa_ways, xa_openNode, xa_lastWord, xa_wordsTo, xa_settled)) :
    wpX_dropWord post (xf_maxWords, xf_maxLength, xf_textCapacity, nI N, xf_nodeCount, xf_found, xf_codeDelay, xf_witnessSize, xf_queueCount, xf_textSize, xf_decoderOn, xf_decoderDone, xf_readSize, xf_settledAt, xf_settledSize, xa_wordCodes, xa_wordLengths, xa_nextNode, xa_wordEnd, xa_wordDelays, xa_witness, xa_witnessWords, xa_witnessCounts, xa_witnessRest, xa_startNodes, xa_pairSeen, xa_pairHeight, xa_queuePair, xa_queueFrom, xa_queueDepth, xa_queueGroup, xa_queueBit, xa_text, xa_ways, xa_openNode, xa_lastWord, xa_wordsTo, xa_settled) (nI k) := by
  have main : ∀ f i, k ≤ i → i ≤ N - 1 → N - i < f → wX_dropWord_13 post xf_maxWords xf_maxLength xf_textCapacity (nI N) xf_nodeCount xf_found xf_codeDelay xf_witnessSize xf_queueCount xf_textSize xf_decoderOn xf_decoderDone xf_readSize xf_settledAt xf_settledSize f (nI i) (da_dr xa_wordCodes k i) (da_dr xa_wordLengths k i) xa_nextNode xa_wordEnd xa_wordDelays xa_witness xa_witnessWords xa_witnessCounts xa_witnessRest xa_startNodes xa_pairSeen xa_pairHeight xa_queuePair xa_queueFrom xa_queueDepth xa_queueGroup xa_queueBit xa_text xa_ways xa_openNode xa_lastWord xa_wordsTo xa_settled := by
    intro f
    induction f with
    | zero => intro i _ _ h0; omega
    | succ f ih =>
      intro i h1 h2 hf
      refine pk_le N (i + 1) (fun q => ?_) (fun q => ?_) rfl (nI_1 i)
      · have : i = N - 1 := by omega
        subst this
        refine nm_r (pk_sub (b := 1) (by omega)) (nm_e (nm_e ?_))
        exact h
      · have ci : (nI i).toNatClampNeg = i := nI_clamp (by omega)
        have c1 : (nI i + 1).toNatClampNeg = i + 1 := by rw [nI_1]; exact nI_clamp (by omega)
        have ii : vp_in (nI i) 8 := vp_in_nI (by omega) (by omega)
        have i1 : vp_in (nI i + 1) 8 := by rw [nI_1]; exact vp_in_nI (by omega) (by omega)
        rw [ci, c1]
        refine ⟨i1, ii, nm_r (da_dr_s h1) ⟨i1, ii, nm_r (da_dr_s h1) (nm_r (nI_1 i) (ih (i + 1) (by omega) (by omega) (by omega)))⟩⟩
  unfold wpX_dropWord
  refine br_f (nI_pos (by omega)) (br_f (nI_ge hk (by omega)) (br_f da_10 ⟨N + 1, ?_⟩))
  have := main (N + 1) k (Nat.le_refl _) (by omega) (by omega)
  rw [da_dr_k, da_dr_k] at this
  exact this
end
section
variable {yf_maxWords yf_maxLength yf_capacity yf_n yf_verdict yf_witLen yf_textLen yf_pos yf_finished yf_settledN yf_opens : Int32} {ya_word ya_wlen ya_delays ya_wit ya_text ya_near ya_life ya_set ya_next ya_ways ya_msg ya_settled : Nat → Int32}
theorem yw_dropWord {N k : Nat} {post : Int32 → SY → Prop} (hN : N ≤ 8) (hk : k < N)
    (h : post (nI (N - 1)) (yf_maxWords, yf_maxLength, yf_capacity, nI (N - 1), 0, yf_witLen, yf_textLen, yf_pos, yf_finished, yf_settledN, yf_opens, da_dr ya_word k (N - 1), da_dr ya_wlen k (N - 1), ya_delays, ya_wit, ya_text, ya_near, ya_life, ya_set, ya_next, ya_ways, ya_msg, ya_settled)) :
    wpY_dropWord post (yf_maxWords, yf_maxLength, yf_capacity, nI N, yf_verdict, yf_witLen, yf_textLen, yf_pos, yf_finished, yf_settledN, yf_opens, ya_word, ya_wlen, ya_delays, ya_wit, ya_text, ya_near, ya_life, ya_set, ya_next, ya_ways, ya_msg, ya_settled) (nI k) := by
  have main : ∀ f i, k ≤ i → i ≤ N - 1 → N - i < f → wY_dropWord_17 post yf_maxWords yf_maxLength yf_capacity (nI N) yf_verdict yf_witLen yf_textLen yf_pos yf_finished yf_settledN yf_opens f (nI i) (da_dr ya_word k i) (da_dr ya_wlen k i) ya_delays ya_wit ya_text ya_near ya_life ya_set ya_next ya_ways ya_msg ya_settled := by
    intro f
    induction f with
    | zero => intro i _ _ h0; omega
    | succ f ih =>
      intro i h1 h2 hf
      refine pk_le N (i + 1) (fun q => ?_) (fun q => ?_) rfl (nI_1 i)
      · have : i = N - 1 := by omega
        subst this
        exact nm_r (pk_sub (b := 1) (by omega)) h
      · have ci : (nI i).toNatClampNeg = i := nI_clamp (by omega)
        have c1 : (nI i + 1).toNatClampNeg = i + 1 := by rw [nI_1]; exact nI_clamp (by omega)
        have ii : vp_in (nI i) 8 := vp_in_nI (by omega) (by omega)
        have i1 : vp_in (nI i + 1) 8 := by rw [nI_1]; exact vp_in_nI (by omega) (by omega)
        rw [ci, c1]
        refine ⟨i1, ii, nm_r (da_dr_s h1) ⟨i1, ii, nm_r (da_dr_s h1) (nm_r (nI_1 i) (ih (i + 1) (by omega) (by omega) (by omega)))⟩⟩
  refine br_f (nI_pos (by omega)) (br_t (nI_lt hk (by omega)) ⟨N + 1, ?_⟩)
  have := main (N + 1) k (Nat.le_refl _) (by omega) (by omega)
  rw [da_dr_k, da_dr_k] at this
  exact this
end
/-! writing a word -/
def da_wr (a : Nat → Int32) (T : Nat) (b : Nat → Nat) (j : Nat) : Nat → Int32 := fun x => if T ≤ x ∧ x < T + j then nI (b (x - T)) else a x
theorem da_wr_0 {a : Nat → Int32} {T : Nat} {b : Nat → Nat} : da_wr a T b 0 = a := by
  funext x
  exact if_neg (by omega)
theorem da_wr_s {a : Nat → Int32} {T : Nat} {b : Nat → Nat} {j : Nat} : upd (da_wr a T b j) (T + j) (nI (b j)) = da_wr a T b (j + 1) := by
  funext x
  by_cases e : x = T + j
  · subst e
    rw [pk_us]
    unfold da_wr
    rw [if_pos (by omega), show T + j - T = j by omega]
  · rw [pk_un e]
    unfold da_wr
    by_cases q : T ≤ x ∧ x < T + j
    · rw [if_pos q, if_pos (by omega)]
    · rw [if_neg q, if_neg (by omega)]
section
variable {xf_maxWords xf_maxLength xf_textCapacity xf_wordCount xf_nodeCount xf_found xf_codeDelay xf_witnessSize xf_queueCount xf_textSize xf_decoderOn xf_decoderDone xf_readSize xf_settledAt xf_settledSize : Int32} {xa_wordCodes xa_wordLengths xa_nextNode xa_wordEnd xa_wordDelays xa_witness xa_witnessWords xa_witnessCounts xa_witnessRest xa_pairSeen xa_pairHeight xa_queuePair xa_queueFrom xa_queueDepth xa_queueGroup xa_queueBit xa_text xa_ways xa_openNode xa_lastWord xa_wordsTo xa_settled : Nat → Int32} {xa_startNodes : Nat → Int64}
theorem xw_writeWord {N k T cap : Nat} {post : Int32 → SX → Prop} (hc : da_cok N xa_wordCodes xa_wordLengths) (hk : k < N) (hT : T ≤ cap) (hcap : cap ≤ 256)
    (hf : ¬ T + da_L xa_wordLengths k ≤ cap → post (-3) (xf_maxWords, xf_maxLength, nI cap, nI N, xf_nodeCount, xf_found, xf_codeDelay, xf_witnessSize, xf_queueCount, nI T, xf_decoderOn, xf_decoderDone, xf_readSize, xf_settledAt, xf_settledSize, xa_wordCodes, xa_wordLengths, xa_nextNode, xa_wordEnd, xa_wordDelays, xa_witness, xa_witnessWords, xa_witnessCounts, xa_witnessRest, xa_startNodes, xa_pairSeen, xa_pairHeight, xa_queuePair, xa_queueFrom, xa_queueDepth, xa_queueGroup, xa_queueBit, xa_text, xa_ways, xa_openNode, xa_lastWord, xa_wordsTo, xa_settled))
    (h : T + da_L xa_wordLengths k ≤ cap → post (nI (T + da_L xa_wordLengths k)) (xf_maxWords, xf_maxLength, nI cap, nI N, xf_nodeCount, xf_found, xf_codeDelay, xf_witnessSize, xf_queueCount, nI (T + da_L xa_wordLengths k), xf_decoderOn, xf_decoderDone, xf_readSize, xf_settledAt, xf_settledSize, xa_wordCodes, xa_wordLengths, xa_nextNode, xa_wordEnd, xa_wordDelays, xa_witness, xa_witnessWords, xa_witnessCounts, xa_witnessRest, xa_startNodes, xa_pairSeen, xa_pairHeight, xa_queuePair, xa_queueFrom, xa_queueDepth, xa_queueGroup, xa_queueBit, da_wr xa_text T (da_B xa_wordCodes xa_wordLengths k) (da_L xa_wordLengths k), xa_ways, xa_openNode, xa_lastWord, xa_wordsTo, xa_settled)) :
    wpX_writeWord post (xf_maxWords, xf_maxLength, nI cap, nI N, xf_nodeCount, xf_found, xf_codeDelay, xf_witnessSize, xf_queueCount, nI T, xf_decoderOn, xf_decoderDone, xf_readSize, xf_settledAt, xf_settledSize, xa_wordCodes, xa_wordLengths, xa_nextNode, xa_wordEnd, xa_wordDelays, xa_witness, xa_witnessWords, xa_witnessCounts, xa_witnessRest, xa_startNodes, xa_pairSeen, xa_pairHeight, xa_queuePair, xa_queueFrom, xa_queueDepth, xa_queueGroup, xa_queueBit, xa_text, xa_ways, xa_openNode, xa_lastWord, xa_wordsTo, xa_settled) (nI k) := by
  have hok := da_cok_ok hc
  have hN := hc.1
  obtain ⟨e2, l1, l2, _⟩ := da_cok_v hc hk
  have ck : (nI k).toNatClampNeg = k := nI_clamp (by omega)
  unfold wpX_writeWord
  refine br_f (nI_pos (by omega)) (br_f (nI_ge hk (by omega)) (br_f da_10 ⟨vp_in_nI (by omega) (by omega), nm_r (e' := nI (da_L xa_wordLengths k)) (by rw [ck]; exact e2) ?_⟩))
  refine pk_le (T + da_L xa_wordLengths k) cap (fun q => ⟨da_L xa_wordLengths k + 1, ?_⟩) (fun q => hf (by omega)) (nI_add _ _)
  have main : ∀ f j, j ≤ da_L xa_wordLengths k → da_L xa_wordLengths k - j < f → wX_writeWord_36 post (nI k) (nI (da_L xa_wordLengths k)) xf_maxWords xf_maxLength (nI cap) (nI N) xf_nodeCount xf_found xf_codeDelay xf_witnessSize xf_queueCount xf_decoderOn xf_decoderDone xf_readSize xf_settledAt xf_settledSize f (nI j) (nI (T + j)) xa_wordCodes xa_wordLengths xa_nextNode xa_wordEnd xa_wordDelays xa_witness xa_witnessWords xa_witnessCounts xa_witnessRest xa_startNodes xa_pairSeen xa_pairHeight xa_queuePair xa_queueFrom xa_queueDepth xa_queueGroup xa_queueBit (da_wr xa_text T (da_B xa_wordCodes xa_wordLengths k) j) xa_ways xa_openNode xa_lastWord xa_wordsTo xa_settled := by
    intro f
    induction f with
    | zero => intro j _ h0; omega
    | succ f ih =>
      intro j hj hf'
      refine pk_le (da_L xa_wordLengths k) j (fun y => ?_) (fun y => ?_)
      · have : j = da_L xa_wordLengths k := by omega
        subst this; exact h q
      · refine xw_wordBit hc hk y ?_
        have cT : (nI (T + j)).toNatClampNeg = T + j := nI_clamp (by omega)
        rw [cT, (da_byte (hok.2.2.1 k j)).1]
        exact ⟨vp_in_nI (by omega) (by omega), nm_r da_wr_s (nm_r (nI_1 (T + j)) (nm_r (nI_1 j) (ih (j + 1) (by omega) (by omega))))⟩
  have := main (da_L xa_wordLengths k + 1) 0 (by omega) (by omega)
  rw [da_wr_0] at this
  exact this
end
section
variable {yf_maxWords yf_maxLength yf_capacity yf_n yf_verdict yf_witLen yf_textLen yf_pos yf_finished yf_settledN yf_opens : Int32} {ya_word ya_wlen ya_delays ya_wit ya_text ya_near ya_life ya_set ya_next ya_ways ya_msg ya_settled : Nat → Int32}
theorem yw_writeWord {N k T cap : Nat} {post : Int32 → SY → Prop} (hc : da_cok N ya_word ya_wlen) (hk : k < N) (hT : T ≤ cap) (hcap : cap ≤ 256)
    (hf : ¬ T + da_L ya_wlen k ≤ cap → post (-3) (yf_maxWords, yf_maxLength, nI cap, nI N, yf_verdict, yf_witLen, nI T, yf_pos, yf_finished, yf_settledN, yf_opens, ya_word, ya_wlen, ya_delays, ya_wit, ya_text, ya_near, ya_life, ya_set, ya_next, ya_ways, ya_msg, ya_settled))
    (h : T + da_L ya_wlen k ≤ cap → post (nI (T + da_L ya_wlen k)) (yf_maxWords, yf_maxLength, nI cap, nI N, yf_verdict, yf_witLen, nI (T + da_L ya_wlen k), yf_pos, yf_finished, yf_settledN, yf_opens, ya_word, ya_wlen, ya_delays, ya_wit, da_wr ya_text T (da_B ya_word ya_wlen k) (da_L ya_wlen k), ya_near, ya_life, ya_set, ya_next, ya_ways, ya_msg, ya_settled)) :
    wpY_writeWord post (yf_maxWords, yf_maxLength, nI cap, nI N, yf_verdict, yf_witLen, nI T, yf_pos, yf_finished, yf_settledN, yf_opens, ya_word, ya_wlen, ya_delays, ya_wit, ya_text, ya_near, ya_life, ya_set, ya_next, ya_ways, ya_msg, ya_settled) (nI k) := by
  have hok := da_cok_ok hc
  have hN := hc.1
  obtain ⟨e2, l1, l2, _⟩ := da_cok_v hc hk
  have ck : (nI k).toNatClampNeg = k := nI_clamp (by omega)
  have ik : vp_in (nI k) 8 := vp_in_nI (by omega) (by omega)
  refine br_f (nI_pos (by omega)) (br_t (nI_lt hk (by omega)) ⟨ik, ?_⟩)
  rw [ck, e2, nI_add]
  refine pk_le (T + da_L ya_wlen k) cap (fun q => ⟨da_L ya_wlen k + 1, ?_⟩) (fun q => hf (by omega))
  have main : ∀ f j, j ≤ da_L ya_wlen k → da_L ya_wlen k - j < f → wY_writeWord_38 post (nI k) yf_maxWords yf_maxLength (nI cap) (nI N) yf_verdict yf_witLen (nI T) yf_pos yf_finished yf_settledN yf_opens f (nI j) ya_word ya_wlen ya_delays ya_wit (da_wr ya_text T (da_B ya_word ya_wlen k) j) ya_near ya_life ya_set ya_next ya_ways ya_msg ya_settled := by
    intro f
    induction f with
    | zero => intro j _ h0; omega
    | succ f ih =>
      intro j hj hf'
      refine And.intro ik ?_
      rw [ck, e2]
      refine pk_le (da_L ya_wlen k) j (fun y => ⟨ik, ?_⟩) (fun y => ?_)
      · have : j = da_L ya_wlen k := by omega
        subst this
        exact nm_r (nI_add _ _) (h q)
      · refine yw_bitOf hc hk (by omega) (fun _ => ?_) (fun z => absurd y z)
        have cT : (nI (T + j)).toNatClampNeg = T + j := nI_clamp (by omega)
        rw [nI_add, cT]
        exact ⟨vp_in_nI (by omega) (by omega), nm_r da_wr_s (nm_r (nI_1 j) (ih (j + 1) (by omega) (by omega)))⟩
  have := main (da_L ya_wlen k + 1) 0 (by omega) (by omega)
  rw [da_wr_0] at this
  exact this
end
end
section
/-! the same text up to the decoder's place; counts of open readings; the reading that the reference finds -/
def da_tx (a : Nat → Int32) (x : Nat) : Nat := (a x).toNatClampNeg
section
variable {N : Nat} {L : Nat → Nat} {B : Nat → Nat → Nat} {nd : Nat → Nat → Nat} {t t' : Nat → Nat}
theorem da_rd_c (hk : da_ok N L B) : ∀ (l : List Nat) (i e : Nat), (∀ j, j < e → t j = t' j) → da_rd N L B t i l e → da_rd N L B t' i l e
  | [], _, _, _, h => h
  | k :: l, i, e, he, ⟨h1, h2, h3⟩ => by
    have := da_rd_le hk _ _ _ h3
    exact ⟨h1, fun j hj => (he (i + j) (by omega)).symm.trans (h2 j hj), da_rd_c hk l _ e he h3⟩
theorem da_rb_c (hk : da_ok N L B) {i e : Nat} (he : ∀ j, j < e → t j = t' j) (h : da_rb N L B t i e) : da_rb N L B t' i e := by
  obtain ⟨l, hl⟩ := h
  exact ⟨l, da_rd_c hk l i e he hl⟩
theorem da_oc_c (hk : da_ok N L B) {p r k : Nat} (he : ∀ j, j < p → t j = t' j) (h : da_oc N L B t p r k) : da_oc N L B t' p r k := by
  obtain ⟨a, b, c, d, e⟩ := h
  exact ⟨a, b, c, da_rb_c hk (fun j hj => he j (by omega)) d, fun j hj => (he (p - r + j) (by omega)).symm.trans (e j hj)⟩
theorem da_op_c {i p : Nat} (he : ∀ j, j < p → t j = t' j) (h : da_op N L B t i p) : da_op N L B t' i p := by
  rcases h with h | ⟨k, a, b, c⟩
  · exact Or.inl h
  · exact Or.inr ⟨k, a, b, fun j hj => (he (i + j) (by omega)).symm.trans (c j hj)⟩
theorem da_ow_c (hk : da_ok N L B) {p : Nat} {l : List Nat} (he : ∀ j, j < p → t j = t' j) (h : da_ow N L B t p l) : da_ow N L B t' p l := by
  obtain ⟨i, a, b, c⟩ := h
  exact ⟨i, a, da_op_c he b, da_rd_c hk l 0 i (fun j hj => he j (by omega)) c⟩
theorem da_dx_c (hk : da_ok N L B) {p dn : Nat} {on lw wt : Nat → Int32} {sa ss : Int32} {st : Nat → Int32} (he : ∀ j, j < p → t j = t' j) (h : da_dx N L B nd t p dn on lw wt sa ss st) : da_dx N L B nd t' p dn on lw wt sa ss st := by
  have he' : ∀ j, j < p → t' j = t j := fun j hj => (he j hj).symm
  obtain ⟨h1, h2, S, a, e1, e2, e3, e4, e5, e6, e7⟩ := h
  refine ⟨fun r hr => ?_, fun q hq => ?_, S, a, e1, e2, da_rd_c hk S 0 a (fun j hj => he j (by omega)) e3, e4, e5, fun z => da_lc_c (fun l => ⟨da_ow_c hk he, da_ow_c hk he'⟩) (e6 z), e7⟩
  · rcases h1 r hr with ⟨k, a, b⟩ | ⟨a, b⟩
    · exact Or.inl ⟨k, da_oc_c hk he a, b⟩
    · exact Or.inr ⟨a, fun k w => b k (da_oc_c hk he' w)⟩
  · rcases h2 q hq with ⟨l, a, b⟩ | ⟨a, b⟩
    · exact Or.inl ⟨l, da_rd_c hk l 0 q (fun j hj => he j (by omega)) a, b⟩
    · exact Or.inr ⟨fun w => a (da_rb_c hk (fun j hj => he' j (by omega)) w), b⟩
theorem da_gr_ex (hk : da_ok N L B) {e : Nat} : ∀ (M i : Nat), e - i ≤ M → i ≤ e → da_rb N L B t i e → ∃ l, da_gr N L B t e 0 i l := by
  intro M
  induction M with
  | zero => intro i h1 h2 _; exact ⟨[], by show i = e; omega⟩
  | succ M ih =>
    intro i h1 h2 h
    by_cases z : i = e
    · exact ⟨[], z⟩
    · obtain ⟨k, a, b⟩ := (da_rb_step hk z).mp h
      obtain ⟨k0, ⟨c1, c2⟩, c3⟩ := pk_least (fun k => k < N ∧ da_ft N L B t e i k) ⟨k, a, b⟩
      have hL := hk.2.1 k0 c1
      obtain ⟨l, hl⟩ := ih (i + L k0) (by omega) c2.1 c2.2.2
      refine ⟨k0 :: l, ⟨c1, c2, fun k' d1 d2 => ⟨fun _ => ?_, fun w => absurd rfl w⟩⟩, hl⟩
      rcases Nat.lt_or_ge k' k0 with y | y
      · exact absurd ⟨d1, d2⟩ (c3 k' y)
      · exact y
theorem da_gr_of (hk : da_ok N L B) (hna : ∀ bs, ¬ da_ay N L B bs) {e : Nat} {l : List Nat} (h : da_rd N L B t 0 l e) : da_gr N L B t e 0 0 l := by
  obtain ⟨l', hl⟩ := da_gr_ex hk e 0 (by omega) (Nat.zero_le _) ⟨l, h⟩
  rw [da_rd_uniq hk hna _ _ _ _ h (da_gr_rd _ _ hl)]; exact hl
theorem da_lc_ne {Ls : List Nat → Prop} {S : List Nat} (h : da_lc Ls S) : ∃ l, Ls l := by
  rcases Classical.em (∃ l, Ls l) with w | w
  · exact w
  · exfalso
    have := (h.2 (S ++ [0]) (fun l hl => absurd ⟨l, hl⟩ w)).length_le
    rw [List.length_append] at this
    simp at this
    omega
end
theorem da_sm_front (f : Nat → Nat) : ∀ n, da_sm f (n + 1) = f 0 + da_sm (fun k => f (k + 1)) n
  | 0 => by show 0 + f 0 = f 0 + 0; omega
  | n + 1 => by
    show da_sm f (n + 1) + f (n + 1) = f 0 + (da_sm (fun k => f (k + 1)) n + f (n + 1))
    rw [da_sm_front f n]; omega
theorem da_sm_rev (f : Nat → Nat) : ∀ n, da_sm (fun r => f (n - r)) (n + 1) = da_sm f (n + 1)
  | 0 => rfl
  | n + 1 => by
    rw [da_sm_front]
    show f (n + 1 - 0) + da_sm (fun k => f (n + 1 - (k + 1))) (n + 1) = da_sm f (n + 1) + f (n + 1)
    rw [da_sm_eq (g := fun r => f (n - r)) (fun k hk => by rw [show n + 1 - (k + 1) = n - k by omega]), da_sm_rev f n, Nat.sub_zero]
    omega
theorem da_cn_ext {P : Nat → Prop} {a : Nat} (h : ∀ k, a ≤ k → ¬ P k) : ∀ b, a ≤ b → da_cn P b = da_cn P a
  | 0, hb => by have : a = 0 := by omega
                subst this; rfl
  | b + 1, hb => by
    rcases Nat.lt_or_ge b a with y | y
    · have : a = b + 1 := by omega
      subst this; rfl
    · rw [da_cn_s, da_if_f (h b y), da_cn_ext h b y]; rfl
/-- the open readings, counted by their rests -/
theorem da_cnt8 {N : Nat} {L : Nat → Nat} {B : Nat → Nat → Nat} {t : Nat → Nat} {p : Nat} (hk : da_ok N L B) (hN : 0 < N) : da_cn (fun r => ∃ k, da_oc N L B t p r k) 8 = da_cn (da_oi N L B t 0 p) (p + 1) := by
  have e1 : da_cn (da_oi N L B t 0 p) (p + 1) = da_cn (fun r => da_oi N L B t 0 p (p - r)) (p + 1) := (da_sm_rev (fun i => da_if (da_oi N L B t 0 p i) 1) p).symm
  have e2 : da_cn (fun r => da_oi N L B t 0 p (p - r)) (p + 1) = da_cn (fun r => ∃ k, da_oc N L B t p r k) (p + 1) := by
    refine da_cn_eq (fun r hr => ?_)
    constructor
    · rintro ⟨_, a, b⟩
      have := (da_op_oc hk hN (show p - r ≤ p by omega) a b).2
      rwa [show p - (p - r) = r by omega] at this
    · rintro ⟨k, h⟩
      have := da_oc_op h
      exact ⟨fun z => absurd rfl z, this.1, this.2⟩
  have h8 : ∀ r, 8 ≤ r → ¬ ∃ k, da_oc N L B t p r k := by
    rintro r hr ⟨k, a, b, _⟩
    have := hk.2.1 k a
    omega
  have hp : ∀ r, p + 1 ≤ r → ¬ ∃ k, da_oc N L B t p r k := by
    rintro r hr ⟨k, a, b, c, _⟩
    omega
  rw [e1, e2]
  rcases Nat.lt_or_ge (p + 1) 8 with y | y
  · exact da_cn_ext hp 8 (by omega)
  · exact (da_cn_ext h8 (p + 1) y).symm
end
section
/-! the relation -/
def da_dly (N : Nat) (cd : Int32) (wd dl : Nat → Int32) : Prop := ∃ d : Nat → Nat, (∀ k, k < N → wd k = nI (d k) ∧ dl k = nI (d k) ∧ d k ≤ 1000) ∧ cd = nI (da_mx d N)
def da_wt (N : Nat) (L : Nat → Nat) (B : Nat → Nat → Nat) (wsz wl : Int32) (wx wy wc ww : Nat → Int32) : Prop := ∃ (m : Nat) (z : Nat → Nat), 1 ≤ m ∧ m ≤ 232 ∧ wsz = nI m ∧ wl = nI m ∧ (∀ j, j < m → wx j = nI (z j) ∧ wy j = nI (z j) ∧ z j < 2) ∧ ∀ wh, wh < 2 → da_gw N L B z m wh (wc wh) ww
def da_dc (N : Nat) (L : Nat → Nat) (B : Nat → Nat → Nat) (T : Nat) (text nx we : Nat → Int32) (dDone rs sa ss : Int32) (on lw wt st : Nat → Int32) (fin pos : Int32) : Prop :=
  ∃ (nd : Nat → Nat → Nat) (nc p f : Nat), da_tri N L B nd nc nx we ∧ (∀ bs, ¬ da_ay N L B bs) ∧ 0 < N ∧ p ≤ T ∧ rs = nI p ∧ pos = nI p ∧ f < 2 ∧ dDone = nI f ∧ fin = nI f ∧ da_dx N L B nd (da_tx text) p f on lw wt sa ss st
def da_rel (mw ml cap N T vd : Nat) (aw al text : Nat → Int32) (cd wsz dOn dDone rs sa ss : Int32) (nx we wd wx ww wc on lw wt st : Nat → Int32) (wl pos fin : Int32) (dl wy : Nat → Int32) : Prop :=
  (mw ≤ 8 ∧ ml ≤ 8 ∧ cap ≤ 256 ∧ N ≤ mw ∧ T ≤ cap ∧ vd ≤ 3) ∧ da_cok N aw al ∧ (∀ x, x < T → text x = nI (da_tx text x) ∧ da_tx text x < 2) ∧ dOn = nI (if vd = 3 then 1 else 0) ∧ (vd ≠ 0 → da_dly N cd wd dl) ∧ (vd = 1 → da_wt N (da_L al) (da_B aw al) wsz wl wx wy wc ww) ∧ (vd = 3 → da_dc N (da_L al) (da_B aw al) T text nx we dDone rs sa ss on lw wt st fin pos)
def i_Rel (k : Nat) (u : SX) (v : SY) : Prop := match u with
  | (xf_maxWords, xf_maxLength, xf_textCapacity, xf_wordCount, xf_nodeCount, xf_found, xf_codeDelay, xf_witnessSize, xf_queueCount, xf_textSize, xf_decoderOn, xf_decoderDone, xf_readSize, xf_settledAt, xf_settledSize, xa_wordCodes, xa_wordLengths, xa_nextNode, xa_wordEnd, xa_wordDelays, xa_witness, xa_witnessWords, xa_witnessCounts, xa_witnessRest, xa_startNodes, xa_pairSeen, xa_pairHeight, xa_queuePair, xa_queueFrom, xa_queueDepth, xa_queueGroup, xa_queueBit, xa_text, xa_ways, xa_openNode, xa_lastWord, xa_wordsTo, xa_settled) => match v with
    | (yf_maxWords, yf_maxLength, yf_capacity, yf_n, yf_verdict, yf_witLen, yf_textLen, yf_pos, yf_finished, yf_settledN, yf_opens, ya_word, ya_wlen, ya_delays, ya_wit, ya_text, ya_near, ya_life, ya_set, ya_next, ya_ways, ya_msg, ya_settled) => ∃ mw ml cap N T vd : Nat, (xf_maxWords = nI mw ∧ xf_maxLength = nI ml ∧ xf_textCapacity = nI cap ∧ xf_wordCount = nI N ∧ xf_found = nI vd ∧ xf_textSize = nI T ∧ yf_maxWords = nI mw ∧ yf_maxLength = nI ml ∧ yf_capacity = nI cap ∧ yf_n = nI N ∧ yf_verdict = nI vd ∧ yf_textLen = nI T ∧ xa_wordCodes = ya_word ∧ xa_wordLengths = ya_wlen ∧ xa_text = ya_text) ∧ da_rel mw ml cap N T vd xa_wordCodes xa_wordLengths xa_text xf_codeDelay xf_witnessSize xf_decoderOn xf_decoderDone xf_readSize xf_settledAt xf_settledSize xa_nextNode xa_wordEnd xa_wordDelays xa_witness xa_witnessWords xa_witnessCounts xa_openNode xa_lastWord xa_wordsTo xa_settled yf_witLen yf_pos yf_finished ya_delays ya_wit
theorem i_up {k : Nat} {u : SX} {v : SY} (h : i_Rel k u v) : i_Rel (k + 3) u v := h
theorem zz_el {k : Nat} {u : SX} {v : SY} {P : SX → SY → Prop} (h : ∀ (mw ml cap N T vd : Nat) (xf_nodeCount xf_codeDelay xf_witnessSize xf_queueCount xf_decoderOn xf_decoderDone xf_readSize xf_settledAt xf_settledSize : Int32) (xa_wordCodes xa_wordLengths xa_nextNode xa_wordEnd xa_wordDelays xa_witness xa_witnessWords xa_witnessCounts xa_witnessRest xa_pairSeen xa_pairHeight xa_queuePair xa_queueFrom xa_queueDepth xa_queueGroup xa_queueBit xa_text xa_ways xa_openNode xa_lastWord xa_wordsTo xa_settled : Nat → Int32) (xa_startNodes : Nat → Int64) (yf_witLen yf_pos yf_finished yf_settledN yf_opens : Int32) (ya_delays ya_wit ya_near ya_life ya_set ya_next ya_ways ya_msg ya_settled : Nat → Int32), da_rel mw ml cap N T vd xa_wordCodes xa_wordLengths xa_text xf_codeDelay xf_witnessSize xf_decoderOn xf_decoderDone xf_readSize xf_settledAt xf_settledSize xa_nextNode xa_wordEnd xa_wordDelays xa_witness xa_witnessWords xa_witnessCounts xa_openNode xa_lastWord xa_wordsTo xa_settled yf_witLen yf_pos yf_finished ya_delays ya_wit → P (nI mw, nI ml, nI cap, nI N, xf_nodeCount, nI vd, xf_codeDelay, xf_witnessSize, xf_queueCount, nI T, xf_decoderOn, xf_decoderDone, xf_readSize, xf_settledAt, xf_settledSize, xa_wordCodes, xa_wordLengths, xa_nextNode, xa_wordEnd, xa_wordDelays, xa_witness, xa_witnessWords, xa_witnessCounts, xa_witnessRest, xa_startNodes, xa_pairSeen, xa_pairHeight, xa_queuePair, xa_queueFrom, xa_queueDepth, xa_queueGroup, xa_queueBit, xa_text, xa_ways, xa_openNode, xa_lastWord, xa_wordsTo, xa_settled) (nI mw, nI ml, nI cap, nI N, nI vd, yf_witLen, nI T, yf_pos, yf_finished, yf_settledN, yf_opens, xa_wordCodes, xa_wordLengths, ya_delays, ya_wit, xa_text, ya_near, ya_life, ya_set, ya_next, ya_ways, ya_msg, ya_settled)) (I : i_Rel k u v) : P u v := by
  revert I
  exact match u, v with
  | (xf_maxWords, xf_maxLength, xf_textCapacity, xf_wordCount, xf_nodeCount, xf_found, xf_codeDelay, xf_witnessSize, xf_queueCount, xf_textSize, xf_decoderOn, xf_decoderDone, xf_readSize, xf_settledAt, xf_settledSize, xa_wordCodes, xa_wordLengths, xa_nextNode, xa_wordEnd, xa_wordDelays, xa_witness, xa_witnessWords, xa_witnessCounts, xa_witnessRest, xa_startNodes, xa_pairSeen, xa_pairHeight, xa_queuePair, xa_queueFrom, xa_queueDepth, xa_queueGroup, xa_queueBit, xa_text, xa_ways, xa_openNode, xa_lastWord, xa_wordsTo, xa_settled), (yf_maxWords, yf_maxLength, yf_capacity, yf_n, yf_verdict, yf_witLen, yf_textLen, yf_pos, yf_finished, yf_settledN, yf_opens, ya_word, ya_wlen, ya_delays, ya_wit, ya_text, ya_near, ya_life, ya_set, ya_next, ya_ways, ya_msg, ya_settled) => fun I => by
    obtain ⟨mw, ml, cap, N, T, vd, ⟨e1, e2, e3, e4, e5, e6, e7, e8, e9, e10, e11, e12, e13, e14, e15⟩, r⟩ := I
    subst e1 e2 e3 e4 e5 e6 e7 e8 e9 e10 e11 e12 e13 e14 e15
    exact h mw ml cap N T vd xf_nodeCount xf_codeDelay xf_witnessSize xf_queueCount xf_decoderOn xf_decoderDone xf_readSize xf_settledAt xf_settledSize xa_wordCodes xa_wordLengths xa_nextNode xa_wordEnd xa_wordDelays xa_witness xa_witnessWords xa_witnessCounts xa_witnessRest xa_pairSeen xa_pairHeight xa_queuePair xa_queueFrom xa_queueDepth xa_queueGroup xa_queueBit xa_text xa_ways xa_openNode xa_lastWord xa_wordsTo xa_settled xa_startNodes yf_witLen yf_pos yf_finished yf_settledN yf_opens ya_delays ya_wit ya_near ya_life ya_set ya_next ya_ways ya_msg ya_settled r
section
variable {xf_maxWords xf_maxLength xf_textCapacity xf_wordCount xf_nodeCount xf_found xf_codeDelay xf_witnessSize xf_queueCount xf_textSize xf_decoderOn xf_decoderDone xf_readSize xf_settledAt xf_settledSize : Int32} {xa_wordCodes xa_wordLengths xa_nextNode xa_wordEnd xa_wordDelays xa_witness xa_witnessWords xa_witnessCounts xa_witnessRest xa_pairSeen xa_pairHeight xa_queuePair xa_queueFrom xa_queueDepth xa_queueGroup xa_queueBit xa_text xa_ways xa_openNode xa_lastWord xa_wordsTo xa_settled : Nat → Int32} {xa_startNodes : Nat → Int64} {yf_maxWords yf_maxLength yf_capacity yf_n yf_verdict yf_witLen yf_textLen yf_pos yf_finished yf_settledN yf_opens : Int32} {ya_word ya_wlen ya_delays ya_wit ya_text ya_near ya_life ya_set ya_next ya_ways ya_msg ya_settled : Nat → Int32}
theorem zz_in {k mw ml cap N T vd : Nat} (r : da_rel mw ml cap N T vd xa_wordCodes xa_wordLengths xa_text xf_codeDelay xf_witnessSize xf_decoderOn xf_decoderDone xf_readSize xf_settledAt xf_settledSize xa_nextNode xa_wordEnd xa_wordDelays xa_witness xa_witnessWords xa_witnessCounts xa_openNode xa_lastWord xa_wordsTo xa_settled yf_witLen yf_pos yf_finished ya_delays ya_wit) : i_Rel k (nI mw, nI ml, nI cap, nI N, xf_nodeCount, nI vd, xf_codeDelay, xf_witnessSize, xf_queueCount, nI T, xf_decoderOn, xf_decoderDone, xf_readSize, xf_settledAt, xf_settledSize, xa_wordCodes, xa_wordLengths, xa_nextNode, xa_wordEnd, xa_wordDelays, xa_witness, xa_witnessWords, xa_witnessCounts, xa_witnessRest, xa_startNodes, xa_pairSeen, xa_pairHeight, xa_queuePair, xa_queueFrom, xa_queueDepth, xa_queueGroup, xa_queueBit, xa_text, xa_ways, xa_openNode, xa_lastWord, xa_wordsTo, xa_settled) (nI mw, nI ml, nI cap, nI N, nI vd, yf_witLen, nI T, yf_pos, yf_finished, yf_settledN, yf_opens, xa_wordCodes, xa_wordLengths, ya_delays, ya_wit, xa_text, ya_near, ya_life, ya_set, ya_next, ya_ways, ya_msg, ya_settled) := by
  unfold i_Rel
  exact ⟨mw, ml, cap, N, T, vd, ⟨rfl, rfl, rfl, rfl, rfl, rfl, rfl, rfl, rfl, rfl, rfl, rfl, rfl, rfl, rfl⟩, r⟩
end
end
section
/-! the simple calls -/
theorem da_ix3 (x : Int32) {n : Nat} (hn : n < 2 ^ 31) : x < 0 ∨ (¬ x < 0 ∧ nI n ≤ x ∧ ¬ x < nI n ∧ 0 ≤ x) ∨ ∃ j, j < n ∧ x = nI j := by
  rcases pk_ix x hn with h | h | h
  · exact Or.inl h
  · by_cases z : x < 0
    · exact Or.inl z
    · exact Or.inr (Or.inl ⟨z, h, Int32.not_lt.mpr h, Int32.not_lt.mp z⟩)
  · exact Or.inr (Or.inr h)
theorem da_lt0 {x : Int32} (h : x < 0) : ¬ 0 ≤ x := fun w => (Int32.not_lt.mpr w) h
section
variable {xf_maxWords xf_maxLength xf_textCapacity xf_wordCount xf_nodeCount xf_found xf_codeDelay xf_witnessSize xf_queueCount xf_textSize xf_decoderOn xf_decoderDone xf_readSize xf_settledAt xf_settledSize : Int32} {xa_wordCodes xa_wordLengths xa_nextNode xa_wordEnd xa_wordDelays xa_witness xa_witnessWords xa_witnessCounts xa_witnessRest xa_pairSeen xa_pairHeight xa_queuePair xa_queueFrom xa_queueDepth xa_queueGroup xa_queueBit xa_text xa_ways xa_openNode xa_lastWord xa_wordsTo xa_settled : Nat → Int32} {xa_startNodes : Nat → Int64} {yf_maxWords yf_maxLength yf_capacity yf_n yf_verdict yf_witLen yf_textLen yf_pos yf_finished yf_settledN yf_opens : Int32} {ya_word ya_wlen ya_delays ya_wit ya_text ya_near ya_life ya_set ya_next ya_ways ya_msg ya_settled : Nat → Int32} {mw ml cap N T vd : Nat}
theorem da_rel_text {text' : Nat → Int32} {T' : Nat} (R : da_rel mw ml cap N T vd xa_wordCodes xa_wordLengths xa_text xf_codeDelay xf_witnessSize xf_decoderOn xf_decoderDone xf_readSize xf_settledAt xf_settledSize xa_nextNode xa_wordEnd xa_wordDelays xa_witness xa_witnessWords xa_witnessCounts xa_openNode xa_lastWord xa_wordsTo xa_settled yf_witLen yf_pos yf_finished ya_delays ya_wit) (h1 : ∀ x, x < T → text' x = xa_text x) (h2 : T ≤ T') (h3 : T' ≤ cap) (h4 : ∀ x, x < T' → text' x = nI (da_tx text' x) ∧ da_tx text' x < 2) :
    da_rel mw ml cap N T' vd xa_wordCodes xa_wordLengths text' xf_codeDelay xf_witnessSize xf_decoderOn xf_decoderDone xf_readSize xf_settledAt xf_settledSize xa_nextNode xa_wordEnd xa_wordDelays xa_witness xa_witnessWords xa_witnessCounts xa_openNode xa_lastWord xa_wordsTo xa_settled yf_witLen yf_pos yf_finished ya_delays ya_wit := by
  obtain ⟨⟨a1, a2, a3, a4, a5, a6⟩, b, c, d, e, f, g⟩ := R
  refine ⟨⟨a1, a2, a3, a4, h3, a6⟩, b, h4, d, e, f, fun z => ?_⟩
  obtain ⟨nd, nc, p, q, g1, g2, g3, g4, g5, g6, g7, g8, g9, g10⟩ := g z
  refine ⟨nd, nc, p, q, g1, g2, g3, by omega, g5, g6, g7, g8, g9, da_dx_c (da_cok_ok b) (fun j hj => ?_) g10⟩
  unfold da_tx
  rw [h1 j (by omega)]
end
theorem i_vc_verdict {k : Nat} {u : SX} {v : SY} (I : i_Rel k u v) (hk : k + 3 ≤ 1539) : wpX_verdict (fun r => wpY_verdict (fun r' => r' = r ∧ i_Rel (k + 3) u v) v) u := by
  refine zz_el (P := fun u v => wpX_verdict (fun r => wpY_verdict (fun r' => r' = r ∧ i_Rel (k + 3) u v) v) u) ?_ I
  intro mw ml cap N T vd xf_nodeCount xf_codeDelay xf_witnessSize xf_queueCount xf_decoderOn xf_decoderDone xf_readSize xf_settledAt xf_settledSize xa_wordCodes xa_wordLengths xa_nextNode xa_wordEnd xa_wordDelays xa_witness xa_witnessWords xa_witnessCounts xa_witnessRest xa_pairSeen xa_pairHeight xa_queuePair xa_queueFrom xa_queueDepth xa_queueGroup xa_queueBit xa_text xa_ways xa_openNode xa_lastWord xa_wordsTo xa_settled xa_startNodes yf_witLen yf_pos yf_finished yf_settledN yf_opens ya_delays ya_wit ya_near ya_life ya_set ya_next ya_ways ya_msg ya_settled R
  exact ⟨rfl, zz_in R⟩
theorem i_vc_textLength {k : Nat} {u : SX} {v : SY} (I : i_Rel k u v) (hk : k + 3 ≤ 1539) : wpX_textLength (fun r => wpY_textLength (fun r' => r' = r ∧ i_Rel (k + 3) u v) v) u := by
  refine zz_el (P := fun u v => wpX_textLength (fun r => wpY_textLength (fun r' => r' = r ∧ i_Rel (k + 3) u v) v) u) ?_ I
  intro mw ml cap N T vd xf_nodeCount xf_codeDelay xf_witnessSize xf_queueCount xf_decoderOn xf_decoderDone xf_readSize xf_settledAt xf_settledSize xa_wordCodes xa_wordLengths xa_nextNode xa_wordEnd xa_wordDelays xa_witness xa_witnessWords xa_witnessCounts xa_witnessRest xa_pairSeen xa_pairHeight xa_queuePair xa_queueFrom xa_queueDepth xa_queueGroup xa_queueBit xa_text xa_ways xa_openNode xa_lastWord xa_wordsTo xa_settled xa_startNodes yf_witLen yf_pos yf_finished yf_settledN yf_opens ya_delays ya_wit ya_near ya_life ya_set ya_next ya_ways ya_msg ya_settled R
  exact ⟨rfl, zz_in R⟩
theorem i_vc_wordCode {k : Nat} {u : SX} {v : SY} (I : i_Rel k u v) (hk : k + 3 ≤ 1539) (v1 : Int32) : wpX_wordCode (fun r => wpY_wordCode (fun r' => r' = r ∧ i_Rel (k + 3) u v) v v1) u v1 := by
  refine zz_el (P := fun u v => wpX_wordCode (fun r => wpY_wordCode (fun r' => r' = r ∧ i_Rel (k + 3) u v) v v1) u v1) ?_ I
  intro mw ml cap N T vd xf_nodeCount xf_codeDelay xf_witnessSize xf_queueCount xf_decoderOn xf_decoderDone xf_readSize xf_settledAt xf_settledSize xa_wordCodes xa_wordLengths xa_nextNode xa_wordEnd xa_wordDelays xa_witness xa_witnessWords xa_witnessCounts xa_witnessRest xa_pairSeen xa_pairHeight xa_queuePair xa_queueFrom xa_queueDepth xa_queueGroup xa_queueBit xa_text xa_ways xa_openNode xa_lastWord xa_wordsTo xa_settled xa_startNodes yf_witLen yf_pos yf_finished yf_settledN yf_opens ya_delays ya_wit ya_near ya_life ya_set ya_next ya_ways ya_msg ya_settled R
  have hN := R.2.1.1
  have J : i_Rel (k + 3) (nI mw, nI ml, nI cap, nI N, xf_nodeCount, nI vd, xf_codeDelay, xf_witnessSize, xf_queueCount, nI T, xf_decoderOn, xf_decoderDone, xf_readSize, xf_settledAt, xf_settledSize, xa_wordCodes, xa_wordLengths, xa_nextNode, xa_wordEnd, xa_wordDelays, xa_witness, xa_witnessWords, xa_witnessCounts, xa_witnessRest, xa_startNodes, xa_pairSeen, xa_pairHeight, xa_queuePair, xa_queueFrom, xa_queueDepth, xa_queueGroup, xa_queueBit, xa_text, xa_ways, xa_openNode, xa_lastWord, xa_wordsTo, xa_settled) (nI mw, nI ml, nI cap, nI N, nI vd, yf_witLen, nI T, yf_pos, yf_finished, yf_settledN, yf_opens, xa_wordCodes, xa_wordLengths, ya_delays, ya_wit, xa_text, ya_near, ya_life, ya_set, ya_next, ya_ways, ya_msg, ya_settled) := zz_in R
  unfold wpX_wordCode
  rcases da_ix3 v1 (n := N) (by omega) with h | ⟨h1, h2, h3, h4⟩ | ⟨j, hj, rfl⟩
  · exact br_t h (br_t rfl (br_t h ⟨rfl, J⟩))
  · exact br_f h1 (br_t h2 (br_t rfl (br_f h1 (br_f h3 ⟨rfl, J⟩))))
  · have i1 : vp_in (nI j) 8 := vp_in_nI (by omega) (by omega)
    exact br_f (nI_pos (by omega)) (br_f (nI_ge hj (by omega)) (br_f da_10 ⟨i1, br_f (nI_pos (by omega)) (br_t (nI_lt hj (by omega)) ⟨i1, rfl, J⟩)⟩))
theorem i_vc_wordDelay {k : Nat} {u : SX} {v : SY} (I : i_Rel k u v) (hk : k + 3 ≤ 1539) (v1 : Int32) : wpX_wordDelay (fun r => wpY_wordDelay (fun r' => r' = r ∧ i_Rel (k + 3) u v) v v1) u v1 := by
  refine zz_el (P := fun u v => wpX_wordDelay (fun r => wpY_wordDelay (fun r' => r' = r ∧ i_Rel (k + 3) u v) v v1) u v1) ?_ I
  intro mw ml cap N T vd xf_nodeCount xf_codeDelay xf_witnessSize xf_queueCount xf_decoderOn xf_decoderDone xf_readSize xf_settledAt xf_settledSize xa_wordCodes xa_wordLengths xa_nextNode xa_wordEnd xa_wordDelays xa_witness xa_witnessWords xa_witnessCounts xa_witnessRest xa_pairSeen xa_pairHeight xa_queuePair xa_queueFrom xa_queueDepth xa_queueGroup xa_queueBit xa_text xa_ways xa_openNode xa_lastWord xa_wordsTo xa_settled xa_startNodes yf_witLen yf_pos yf_finished yf_settledN yf_opens ya_delays ya_wit ya_near ya_life ya_set ya_next ya_ways ya_msg ya_settled R
  have hN := R.2.1.1
  have hv := R.1
  have J : i_Rel (k + 3) (nI mw, nI ml, nI cap, nI N, xf_nodeCount, nI vd, xf_codeDelay, xf_witnessSize, xf_queueCount, nI T, xf_decoderOn, xf_decoderDone, xf_readSize, xf_settledAt, xf_settledSize, xa_wordCodes, xa_wordLengths, xa_nextNode, xa_wordEnd, xa_wordDelays, xa_witness, xa_witnessWords, xa_witnessCounts, xa_witnessRest, xa_startNodes, xa_pairSeen, xa_pairHeight, xa_queuePair, xa_queueFrom, xa_queueDepth, xa_queueGroup, xa_queueBit, xa_text, xa_ways, xa_openNode, xa_lastWord, xa_wordsTo, xa_settled) (nI mw, nI ml, nI cap, nI N, nI vd, yf_witLen, nI T, yf_pos, yf_finished, yf_settledN, yf_opens, xa_wordCodes, xa_wordLengths, ya_delays, ya_wit, xa_text, ya_near, ya_life, ya_set, ya_next, ya_ways, ya_msg, ya_settled) := zz_in R
  refine pk_eq vd 0 (fun z => ?_) (fun z => ?_)
  · subst z; exact br_t rfl ⟨rfl, J⟩
  · have z' : ¬ nI vd = 0 := nI_ne0 (by omega) (by omega)
    rcases da_ix3 v1 (n := N) (by omega) with h | ⟨h1, h2, h3, h4⟩ | ⟨j, hj, rfl⟩
    · exact br_t h (br_t rfl (br_f z' (br_t h ⟨rfl, J⟩)))
    · exact br_f h1 (br_t h2 (br_t rfl (br_f z' (br_f h1 (br_f h3 ⟨rfl, J⟩)))))
    · have i1 : vp_in (nI j) 8 := vp_in_nI (by omega) (by omega)
      have cj : (nI j).toNatClampNeg = j := nI_clamp (by omega)
      obtain ⟨d, d1, _⟩ := R.2.2.2.2.1 z
      refine br_f (nI_pos (by omega)) (br_f (nI_ge hj (by omega)) (br_f da_10 ⟨i1, br_f z' (br_f (nI_pos (by omega)) (br_t (nI_lt hj (by omega)) ⟨i1, ?_, J⟩))⟩))
      rw [cj, (d1 j hj).1, (d1 j hj).2.1]
theorem i_vc_delay {k : Nat} {u : SX} {v : SY} (I : i_Rel k u v) (hk : k + 3 ≤ 1539) : wpX_delay (fun r => wpY_delay (fun r' => r' = r ∧ i_Rel (k + 3) u v) v) u := by
  refine zz_el (P := fun u v => wpX_delay (fun r => wpY_delay (fun r' => r' = r ∧ i_Rel (k + 3) u v) v) u) ?_ I
  intro mw ml cap N T vd xf_nodeCount xf_codeDelay xf_witnessSize xf_queueCount xf_decoderOn xf_decoderDone xf_readSize xf_settledAt xf_settledSize xa_wordCodes xa_wordLengths xa_nextNode xa_wordEnd xa_wordDelays xa_witness xa_witnessWords xa_witnessCounts xa_witnessRest xa_pairSeen xa_pairHeight xa_queuePair xa_queueFrom xa_queueDepth xa_queueGroup xa_queueBit xa_text xa_ways xa_openNode xa_lastWord xa_wordsTo xa_settled xa_startNodes yf_witLen yf_pos yf_finished yf_settledN yf_opens ya_delays ya_wit ya_near ya_life ya_set ya_next ya_ways ya_msg ya_settled R
  have hN := R.2.1.1
  have hv := R.1
  have J : i_Rel (k + 3) (nI mw, nI ml, nI cap, nI N, xf_nodeCount, nI vd, xf_codeDelay, xf_witnessSize, xf_queueCount, nI T, xf_decoderOn, xf_decoderDone, xf_readSize, xf_settledAt, xf_settledSize, xa_wordCodes, xa_wordLengths, xa_nextNode, xa_wordEnd, xa_wordDelays, xa_witness, xa_witnessWords, xa_witnessCounts, xa_witnessRest, xa_startNodes, xa_pairSeen, xa_pairHeight, xa_queuePair, xa_queueFrom, xa_queueDepth, xa_queueGroup, xa_queueBit, xa_text, xa_ways, xa_openNode, xa_lastWord, xa_wordsTo, xa_settled) (nI mw, nI ml, nI cap, nI N, nI vd, yf_witLen, nI T, yf_pos, yf_finished, yf_settledN, yf_opens, xa_wordCodes, xa_wordLengths, ya_delays, ya_wit, xa_text, ya_near, ya_life, ya_set, ya_next, ya_ways, ya_msg, ya_settled) := zz_in R
  refine pk_eq vd 0 (fun z => ?_) (fun z => ?_)
  · subst z; exact br_t rfl ⟨rfl, J⟩
  · have z' : ¬ nI vd = 0 := nI_ne0 (by omega) (by omega)
    obtain ⟨d, d1, d2⟩ := R.2.2.2.2.1 z
    refine br_f z' ⟨N + 1, ?_⟩
    have main : ∀ f i, i ≤ N → N - i < f → wY_delay_13 (fun r' => r' = xf_codeDelay ∧ i_Rel (k + 3) (nI mw, nI ml, nI cap, nI N, xf_nodeCount, nI vd, xf_codeDelay, xf_witnessSize, xf_queueCount, nI T, xf_decoderOn, xf_decoderDone, xf_readSize, xf_settledAt, xf_settledSize, xa_wordCodes, xa_wordLengths, xa_nextNode, xa_wordEnd, xa_wordDelays, xa_witness, xa_witnessWords, xa_witnessCounts, xa_witnessRest, xa_startNodes, xa_pairSeen, xa_pairHeight, xa_queuePair, xa_queueFrom, xa_queueDepth, xa_queueGroup, xa_queueBit, xa_text, xa_ways, xa_openNode, xa_lastWord, xa_wordsTo, xa_settled) (nI mw, nI ml, nI cap, nI N, nI vd, yf_witLen, nI T, yf_pos, yf_finished, yf_settledN, yf_opens, xa_wordCodes, xa_wordLengths, ya_delays, ya_wit, xa_text, ya_near, ya_life, ya_set, ya_next, ya_ways, ya_msg, ya_settled)) (nI mw) (nI ml) (nI cap) (nI N) (nI vd) yf_witLen (nI T) yf_pos yf_finished yf_settledN yf_opens xa_wordCodes xa_wordLengths ya_delays ya_wit xa_text ya_near ya_life ya_set ya_next ya_ways ya_msg ya_settled f (nI (da_mx d i)) (nI i) := by
      intro f
      induction f with
      | zero => intro i _ h0; omega
      | succ f ih =>
        intro i hi hf
        have mi : da_mx d i ≤ 1000 := da_mx_le (fun k hk => (d1 k (by omega)).2.2)
        refine pk_le N i (fun q => ?_) (fun q => ?_)
        · have : i = N := by omega
          subst this
          exact ⟨d2.symm, J⟩
        · have ci : (nI i).toNatClampNeg = i := nI_clamp (by omega)
          have ii : vp_in (nI i) 8 := vp_in_nI (by omega) (by omega)
          obtain ⟨_, e2, e3⟩ := d1 i q
          have st := ih (i + 1) (by omega) (by omega)
          rw [ci, e2]
          refine ⟨ii, pk_le (d i) (da_mx d i) (fun y => nm_r (nI_1 i) ?_) (fun y => ⟨ii, nm_e (nm_r (nI_1 i) ?_)⟩)⟩
          · rw [show da_mx d (i + 1) = da_mx d i from if_pos y] at st; exact st
          · rw [show da_mx d (i + 1) = d i from if_neg (by omega)] at st; exact st
    exact main (N + 1) 0 (by omega) (by omega)
theorem i_vc_witnessLength {k : Nat} {u : SX} {v : SY} (I : i_Rel k u v) (hk : k + 3 ≤ 1539) : wpX_witnessLength (fun r => wpY_witnessLength (fun r' => r' = r ∧ i_Rel (k + 3) u v) v) u := by
  refine zz_el (P := fun u v => wpX_witnessLength (fun r => wpY_witnessLength (fun r' => r' = r ∧ i_Rel (k + 3) u v) v) u) ?_ I
  intro mw ml cap N T vd xf_nodeCount xf_codeDelay xf_witnessSize xf_queueCount xf_decoderOn xf_decoderDone xf_readSize xf_settledAt xf_settledSize xa_wordCodes xa_wordLengths xa_nextNode xa_wordEnd xa_wordDelays xa_witness xa_witnessWords xa_witnessCounts xa_witnessRest xa_pairSeen xa_pairHeight xa_queuePair xa_queueFrom xa_queueDepth xa_queueGroup xa_queueBit xa_text xa_ways xa_openNode xa_lastWord xa_wordsTo xa_settled xa_startNodes yf_witLen yf_pos yf_finished yf_settledN yf_opens ya_delays ya_wit ya_near ya_life ya_set ya_next ya_ways ya_msg ya_settled R
  have hv := R.1
  have J : i_Rel (k + 3) (nI mw, nI ml, nI cap, nI N, xf_nodeCount, nI vd, xf_codeDelay, xf_witnessSize, xf_queueCount, nI T, xf_decoderOn, xf_decoderDone, xf_readSize, xf_settledAt, xf_settledSize, xa_wordCodes, xa_wordLengths, xa_nextNode, xa_wordEnd, xa_wordDelays, xa_witness, xa_witnessWords, xa_witnessCounts, xa_witnessRest, xa_startNodes, xa_pairSeen, xa_pairHeight, xa_queuePair, xa_queueFrom, xa_queueDepth, xa_queueGroup, xa_queueBit, xa_text, xa_ways, xa_openNode, xa_lastWord, xa_wordsTo, xa_settled) (nI mw, nI ml, nI cap, nI N, nI vd, yf_witLen, nI T, yf_pos, yf_finished, yf_settledN, yf_opens, xa_wordCodes, xa_wordLengths, ya_delays, ya_wit, xa_text, ya_near, ya_life, ya_set, ya_next, ya_ways, ya_msg, ya_settled) := zz_in R
  refine pk_eq vd 1 (fun z => ?_) (fun z => ?_)
  · obtain ⟨m, zz, _, _, e1, e2, _⟩ := R.2.2.2.2.2.1 z
    subst z
    exact br_t rfl ⟨by rw [e1, e2], J⟩
  · have z' : ¬ nI vd = 1 := fun w => z ((nI_eq (b := 1) (by omega) (by omega)).mp w)
    exact br_f z' ⟨rfl, J⟩
theorem i_vc_witnessBit {k : Nat} {u : SX} {v : SY} (I : i_Rel k u v) (hk : k + 3 ≤ 1539) (v1 : Int32) : wpX_witnessBit (fun r => wpY_witnessBit (fun r' => r' = r ∧ i_Rel (k + 3) u v) v v1) u v1 := by
  refine zz_el (P := fun u v => wpX_witnessBit (fun r => wpY_witnessBit (fun r' => r' = r ∧ i_Rel (k + 3) u v) v v1) u v1) ?_ I
  intro mw ml cap N T vd xf_nodeCount xf_codeDelay xf_witnessSize xf_queueCount xf_decoderOn xf_decoderDone xf_readSize xf_settledAt xf_settledSize xa_wordCodes xa_wordLengths xa_nextNode xa_wordEnd xa_wordDelays xa_witness xa_witnessWords xa_witnessCounts xa_witnessRest xa_pairSeen xa_pairHeight xa_queuePair xa_queueFrom xa_queueDepth xa_queueGroup xa_queueBit xa_text xa_ways xa_openNode xa_lastWord xa_wordsTo xa_settled xa_startNodes yf_witLen yf_pos yf_finished yf_settledN yf_opens ya_delays ya_wit ya_near ya_life ya_set ya_next ya_ways ya_msg ya_settled R
  have hv := R.1
  have J : i_Rel (k + 3) (nI mw, nI ml, nI cap, nI N, xf_nodeCount, nI vd, xf_codeDelay, xf_witnessSize, xf_queueCount, nI T, xf_decoderOn, xf_decoderDone, xf_readSize, xf_settledAt, xf_settledSize, xa_wordCodes, xa_wordLengths, xa_nextNode, xa_wordEnd, xa_wordDelays, xa_witness, xa_witnessWords, xa_witnessCounts, xa_witnessRest, xa_startNodes, xa_pairSeen, xa_pairHeight, xa_queuePair, xa_queueFrom, xa_queueDepth, xa_queueGroup, xa_queueBit, xa_text, xa_ways, xa_openNode, xa_lastWord, xa_wordsTo, xa_settled) (nI mw, nI ml, nI cap, nI N, nI vd, yf_witLen, nI T, yf_pos, yf_finished, yf_settledN, yf_opens, xa_wordCodes, xa_wordLengths, ya_delays, ya_wit, xa_text, ya_near, ya_life, ya_set, ya_next, ya_ways, ya_msg, ya_settled) := zz_in R
  refine pk_eq vd 1 (fun z => ?_) (fun z => ?_)
  · obtain ⟨m, zz, m1, m2, e1, e2, e3, _⟩ := R.2.2.2.2.2.1 z
    have z' : nI vd = 1 := by rw [z]; rfl
    rcases da_ix3 v1 (n := m) (by omega) with h | ⟨h1, h2, h3, h4⟩ | ⟨j, hj, rfl⟩
    · exact br_t h (br_t z' (br_t h ⟨rfl, J⟩))
    · exact br_f h1 (br_f (by rw [e1]; exact h3) (br_t z' (br_f h1 (br_f (by rw [e2]; exact h3) ⟨rfl, J⟩))))
    · have cj : (nI j).toNatClampNeg = j := nI_clamp (by omega)
      refine br_f (nI_pos (by omega)) (br_t (by rw [e1]; exact nI_lt hj (by omega)) ⟨vp_in_nI (by omega) (by omega), br_t z' (br_f (nI_pos (by omega)) (br_t (by rw [e2]; exact nI_lt hj (by omega)) ⟨vp_in_nI (by omega) (by omega), ?_, J⟩))⟩)
      rw [cj, (e3 j hj).1, (e3 j hj).2.1]
  · have z' : ¬ nI vd = 1 := fun w => z ((nI_eq (b := 1) (by omega) (by omega)).mp w)
    exact br_f z' ⟨rfl, J⟩
theorem i_vc_textBit {k : Nat} {u : SX} {v : SY} (I : i_Rel k u v) (hk : k + 3 ≤ 1539) (v1 : Int32) : wpX_textBit (fun r => wpY_textBit (fun r' => r' = r ∧ i_Rel (k + 3) u v) v v1) u v1 := by
  refine zz_el (P := fun u v => wpX_textBit (fun r => wpY_textBit (fun r' => r' = r ∧ i_Rel (k + 3) u v) v v1) u v1) ?_ I
  intro mw ml cap N T vd xf_nodeCount xf_codeDelay xf_witnessSize xf_queueCount xf_decoderOn xf_decoderDone xf_readSize xf_settledAt xf_settledSize xa_wordCodes xa_wordLengths xa_nextNode xa_wordEnd xa_wordDelays xa_witness xa_witnessWords xa_witnessCounts xa_witnessRest xa_pairSeen xa_pairHeight xa_queuePair xa_queueFrom xa_queueDepth xa_queueGroup xa_queueBit xa_text xa_ways xa_openNode xa_lastWord xa_wordsTo xa_settled xa_startNodes yf_witLen yf_pos yf_finished yf_settledN yf_opens ya_delays ya_wit ya_near ya_life ya_set ya_next ya_ways ya_msg ya_settled R
  have hv := R.1
  have J : i_Rel (k + 3) (nI mw, nI ml, nI cap, nI N, xf_nodeCount, nI vd, xf_codeDelay, xf_witnessSize, xf_queueCount, nI T, xf_decoderOn, xf_decoderDone, xf_readSize, xf_settledAt, xf_settledSize, xa_wordCodes, xa_wordLengths, xa_nextNode, xa_wordEnd, xa_wordDelays, xa_witness, xa_witnessWords, xa_witnessCounts, xa_witnessRest, xa_startNodes, xa_pairSeen, xa_pairHeight, xa_queuePair, xa_queueFrom, xa_queueDepth, xa_queueGroup, xa_queueBit, xa_text, xa_ways, xa_openNode, xa_lastWord, xa_wordsTo, xa_settled) (nI mw, nI ml, nI cap, nI N, nI vd, yf_witLen, nI T, yf_pos, yf_finished, yf_settledN, yf_opens, xa_wordCodes, xa_wordLengths, ya_delays, ya_wit, xa_text, ya_near, ya_life, ya_set, ya_next, ya_ways, ya_msg, ya_settled) := zz_in R
  rcases da_ix3 v1 (n := T) (by omega) with h | ⟨h1, h2, h3, h4⟩ | ⟨j, hj, rfl⟩
  · exact br_t h (br_t h ⟨rfl, J⟩)
  · exact br_f h1 (br_f h3 (br_f h1 (br_f h3 ⟨rfl, J⟩)))
  · have i1 : vp_in (nI j) 256 := vp_in_nI (by omega) (by omega)
    exact br_f (nI_pos (by omega)) (br_t (nI_lt hj (by omega)) ⟨i1, br_f (nI_pos (by omega)) (br_t (nI_lt hj (by omega)) ⟨i1, rfl, J⟩)⟩)
theorem i_vc_writeBit {k : Nat} {u : SX} {v : SY} (I : i_Rel k u v) (hk : k + 3 ≤ 1539) (v1 : Int32) : wpX_writeBit (fun r u' => wpY_writeBit (fun r' v' => r' = r ∧ i_Rel (k + 3) u' v') v v1) u v1 := by
  refine zz_el (P := fun u v => wpX_writeBit (fun r u' => wpY_writeBit (fun r' v' => r' = r ∧ i_Rel (k + 3) u' v') v v1) u v1) ?_ I
  intro mw ml cap N T vd xf_nodeCount xf_codeDelay xf_witnessSize xf_queueCount xf_decoderOn xf_decoderDone xf_readSize xf_settledAt xf_settledSize xa_wordCodes xa_wordLengths xa_nextNode xa_wordEnd xa_wordDelays xa_witness xa_witnessWords xa_witnessCounts xa_witnessRest xa_pairSeen xa_pairHeight xa_queuePair xa_queueFrom xa_queueDepth xa_queueGroup xa_queueBit xa_text xa_ways xa_openNode xa_lastWord xa_wordsTo xa_settled xa_startNodes yf_witLen yf_pos yf_finished yf_settledN yf_opens ya_delays ya_wit ya_near ya_life ya_set ya_next ya_ways ya_msg ya_settled R
  have hv := R.1
  have J : i_Rel (k + 3) (nI mw, nI ml, nI cap, nI N, xf_nodeCount, nI vd, xf_codeDelay, xf_witnessSize, xf_queueCount, nI T, xf_decoderOn, xf_decoderDone, xf_readSize, xf_settledAt, xf_settledSize, xa_wordCodes, xa_wordLengths, xa_nextNode, xa_wordEnd, xa_wordDelays, xa_witness, xa_witnessWords, xa_witnessCounts, xa_witnessRest, xa_startNodes, xa_pairSeen, xa_pairHeight, xa_queuePair, xa_queueFrom, xa_queueDepth, xa_queueGroup, xa_queueBit, xa_text, xa_ways, xa_openNode, xa_lastWord, xa_wordsTo, xa_settled) (nI mw, nI ml, nI cap, nI N, nI vd, yf_witLen, nI T, yf_pos, yf_finished, yf_settledN, yf_opens, xa_wordCodes, xa_wordLengths, ya_delays, ya_wit, xa_text, ya_near, ya_life, ya_set, ya_next, ya_ways, ya_msg, ya_settled) := zz_in R
  have go : ∀ b, b < 2 → v1 = nI b → wX_writeBit_12 (fun r u' => wpY_writeBit (fun r' v' => r' = r ∧ i_Rel (k + 3) u' v') (nI mw, nI ml, nI cap, nI N, nI vd, yf_witLen, nI T, yf_pos, yf_finished, yf_settledN, yf_opens, xa_wordCodes, xa_wordLengths, ya_delays, ya_wit, xa_text, ya_near, ya_life, ya_set, ya_next, ya_ways, ya_msg, ya_settled) v1) v1 (nI mw) (nI ml) (nI cap) (nI N) xf_nodeCount (nI vd) xf_codeDelay xf_witnessSize xf_queueCount (nI T) xf_decoderOn xf_decoderDone xf_readSize xf_settledAt xf_settledSize xa_wordCodes xa_wordLengths xa_nextNode xa_wordEnd xa_wordDelays xa_witness xa_witnessWords xa_witnessCounts xa_witnessRest xa_startNodes xa_pairSeen xa_pairHeight xa_queuePair xa_queueFrom xa_queueDepth xa_queueGroup xa_queueBit xa_text xa_ways xa_openNode xa_lastWord xa_wordsTo xa_settled := by
    intro b hb e
    subst e
    have yy : ∀ post : Int32 → SY → Prop, wY_writeBit_12 post (nI b) (nI mw) (nI ml) (nI cap) (nI N) (nI vd) yf_witLen (nI T) yf_pos yf_finished yf_settledN yf_opens xa_wordCodes xa_wordLengths ya_delays ya_wit xa_text ya_near ya_life ya_set ya_next ya_ways ya_msg ya_settled → wpY_writeBit post (nI mw, nI ml, nI cap, nI N, nI vd, yf_witLen, nI T, yf_pos, yf_finished, yf_settledN, yf_opens, xa_wordCodes, xa_wordLengths, ya_delays, ya_wit, xa_text, ya_near, ya_life, ya_set, ya_next, ya_ways, ya_msg, ya_settled) (nI b) := by
      intro post h
      have : b = 0 ∨ b = 1 := by omega
      rcases this with e | e
      · subst e; exact br_t rfl h
      · subst e; exact br_f da_10 (br_t rfl h)
    have cT : (nI T).toNatClampNeg = T := nI_clamp (by omega)
    unfold wX_writeBit_12
    refine pk_lt T cap (fun q => ?_) (fun q => ?_)
    · have iT : vp_in (nI T) 256 := vp_in_nI (by omega) (by omega)
      rw [cT, (da_byte hb).1]
      refine ⟨iT, nm_e (nm_r (nI_1 T) (yy _ ?_))⟩
      unfold wY_writeBit_12
      rw [cT]
      refine br_t (nI_lt q (by omega)) ⟨iT, nm_e (nm_r (nI_1 T) ⟨rfl, zz_in (da_rel_text R (fun x hx => pk_un (by omega)) (by omega) (by omega) (fun x hx => ?_))⟩)⟩
      unfold da_tx
      by_cases y : x = T
      · subst y; rw [pk_us, nI_clamp (by omega)]; exact ⟨rfl, hb⟩
      · rw [pk_un y]; exact R.2.2.1 x (by omega)
    · exact yy _ (br_f (nI_nlt q (by omega)) ⟨rfl, J⟩)
  by_cases z0 : v1 = 0
  · exact br_t z0 (go 0 (by omega) z0)
  · by_cases z1 : v1 = 1
    · exact br_f z0 (br_t z1 (go 1 (by omega) z1))
    · exact br_f z0 (br_f z1 (br_f z0 (br_f z1 ⟨rfl, J⟩)))
theorem i_vc_writeWord {k : Nat} {u : SX} {v : SY} (I : i_Rel k u v) (hk : k + 3 ≤ 1539) (v1 : Int32) : wpX_writeWord (fun r u' => wpY_writeWord (fun r' v' => r' = r ∧ i_Rel (k + 3) u' v') v v1) u v1 := by
  refine zz_el (P := fun u v => wpX_writeWord (fun r u' => wpY_writeWord (fun r' v' => r' = r ∧ i_Rel (k + 3) u' v') v v1) u v1) ?_ I
  intro mw ml cap N T vd xf_nodeCount xf_codeDelay xf_witnessSize xf_queueCount xf_decoderOn xf_decoderDone xf_readSize xf_settledAt xf_settledSize xa_wordCodes xa_wordLengths xa_nextNode xa_wordEnd xa_wordDelays xa_witness xa_witnessWords xa_witnessCounts xa_witnessRest xa_pairSeen xa_pairHeight xa_queuePair xa_queueFrom xa_queueDepth xa_queueGroup xa_queueBit xa_text xa_ways xa_openNode xa_lastWord xa_wordsTo xa_settled xa_startNodes yf_witLen yf_pos yf_finished yf_settledN yf_opens ya_delays ya_wit ya_near ya_life ya_set ya_next ya_ways ya_msg ya_settled R
  have hv := R.1
  have hc := R.2.1
  have hN := hc.1
  have J : i_Rel (k + 3) (nI mw, nI ml, nI cap, nI N, xf_nodeCount, nI vd, xf_codeDelay, xf_witnessSize, xf_queueCount, nI T, xf_decoderOn, xf_decoderDone, xf_readSize, xf_settledAt, xf_settledSize, xa_wordCodes, xa_wordLengths, xa_nextNode, xa_wordEnd, xa_wordDelays, xa_witness, xa_witnessWords, xa_witnessCounts, xa_witnessRest, xa_startNodes, xa_pairSeen, xa_pairHeight, xa_queuePair, xa_queueFrom, xa_queueDepth, xa_queueGroup, xa_queueBit, xa_text, xa_ways, xa_openNode, xa_lastWord, xa_wordsTo, xa_settled) (nI mw, nI ml, nI cap, nI N, nI vd, yf_witLen, nI T, yf_pos, yf_finished, yf_settledN, yf_opens, xa_wordCodes, xa_wordLengths, ya_delays, ya_wit, xa_text, ya_near, ya_life, ya_set, ya_next, ya_ways, ya_msg, ya_settled) := zz_in R
  rcases da_ix3 v1 (n := N) (by omega) with h | ⟨h1, h2, h3, h4⟩ | ⟨j, hj, rfl⟩
  · unfold wpX_writeWord
    exact br_t h (br_t rfl (br_t h ⟨rfl, J⟩))
  · unfold wpX_writeWord
    exact br_f h1 (br_t h2 (br_t rfl (br_f h1 (br_f h3 ⟨rfl, J⟩))))
  · refine xw_writeWord hc hj (by omega) (by omega) (fun q => ?_) (fun q => ?_)
    · exact yw_writeWord hc hj (by omega) (by omega) (fun _ => ⟨rfl, J⟩) (fun w => absurd w q)
    · refine yw_writeWord hc hj (by omega) (by omega) (fun w => absurd q w) (fun _ => ⟨rfl, zz_in (da_rel_text R (fun x hx => if_neg (by omega)) (by omega) q (fun x hx => ?_))⟩)
      rcases Nat.lt_or_ge x T with y | y
      · have e : da_wr xa_text T (da_B xa_wordCodes xa_wordLengths j) (da_L xa_wordLengths j) x = xa_text x := if_neg (by omega)
        unfold da_tx
        rw [e]; exact R.2.2.1 x y
      · have e : da_wr xa_text T (da_B xa_wordCodes xa_wordLengths j) (da_L xa_wordLengths j) x = nI (da_B xa_wordCodes xa_wordLengths j (x - T)) := if_pos (by omega)
        have hB := (da_cok_ok hc).2.2.1 j (x - T)
        unfold da_tx
        rw [e, nI_clamp (by omega)]; exact ⟨rfl, hB⟩
end
section
/-! adding and dropping words, clearing, readings, the constructors, analyse -/
theorem da_cok_add {N w l : Nat} {aw al : Nat → Int32} (h : da_cok N aw al) (hN : N < 8) (hl : da_lw w l) (hw : w < 512) (hd : ¬ ∃ k, k < N ∧ aw k = nI w) : da_cok (N + 1) (upd aw N (nI w)) (upd al N (nI l)) := by
  obtain ⟨h1, h2, h3⟩ := h
  refine ⟨by omega, fun k hk => ?_, fun a b ha hb e => ?_⟩
  · by_cases y : k = N
    · subst y
      exact ⟨w, l, pk_us, pk_us, hl.1, hl.2.1, hl.2.2.1, hl.2.2.2⟩
    · rw [pk_un y, pk_un y]; exact h2 k (by omega)
  · by_cases ya : a = N
    · by_cases yb : b = N
      · rw [ya, yb]
      · rw [ya, pk_us, pk_un yb] at e
        exact absurd ⟨b, by omega, e.symm⟩ hd
    · by_cases yb : b = N
      · rw [yb, pk_us, pk_un ya] at e
        exact absurd ⟨a, by omega, e⟩ hd
      · rw [pk_un ya, pk_un yb] at e
        exact h3 a b (by omega) (by omega) e
theorem da_cok_drop {N k : Nat} {aw al : Nat → Int32} (h : da_cok N aw al) (hk : k < N) : da_cok (N - 1) (da_dr aw k (N - 1)) (da_dr al k (N - 1)) := by
  obtain ⟨h1, h2, h3⟩ := h
  have dr : ∀ j, j < N - 1 → ∃ j', j' < N ∧ (∀ a, da_dr a k (N - 1) j = a j') ∧ j' = if k ≤ j then j + 1 else j := by
    intro j hj
    by_cases y : k ≤ j
    · exact ⟨j + 1, by omega, fun a => if_pos ⟨y, hj⟩, (if_pos y).symm⟩
    · exact ⟨j, by omega, fun a => if_neg (fun w => y w.1), (if_neg y).symm⟩
  refine ⟨by omega, fun j hj => ?_, fun a b ha hb e => ?_⟩
  · obtain ⟨j', q1, q2, _⟩ := dr j hj
    rw [q2, q2]; exact h2 j' q1
  · obtain ⟨a', a1, a2, a3⟩ := dr a ha
    obtain ⟨b', b1, b2, b3⟩ := dr b hb
    rw [a2, b2] at e
    have := h3 a' b' a1 b1 e
    rw [a3, b3] at this
    by_cases y : k ≤ a
    · rw [if_pos y] at this
      by_cases y2 : k ≤ b
      · rw [if_pos y2] at this; omega
      · rw [if_neg y2] at this; omega
    · rw [if_neg y] at this
      by_cases y2 : k ≤ b
      · rw [if_pos y2] at this; omega
      · rw [if_neg y2] at this; omega
theorem i_vc_addWord {k : Nat} {u : SX} {v : SY} (I : i_Rel k u v) (hk : k + 3 ≤ 1539) (v1 : Int32) : wpX_addWord (fun r u' => wpY_addWord (fun r' v' => r' = r ∧ i_Rel (k + 3) u' v') v v1) u v1 := by
  refine zz_el (P := fun u v => wpX_addWord (fun r u' => wpY_addWord (fun r' v' => r' = r ∧ i_Rel (k + 3) u' v') v v1) u v1) ?_ I
  intro mw ml cap N T vd xf_nodeCount xf_codeDelay xf_witnessSize xf_queueCount xf_decoderOn xf_decoderDone xf_readSize xf_settledAt xf_settledSize xa_wordCodes xa_wordLengths xa_nextNode xa_wordEnd xa_wordDelays xa_witness xa_witnessWords xa_witnessCounts xa_witnessRest xa_pairSeen xa_pairHeight xa_queuePair xa_queueFrom xa_queueDepth xa_queueGroup xa_queueBit xa_text xa_ways xa_openNode xa_lastWord xa_wordsTo xa_settled xa_startNodes yf_witLen yf_pos yf_finished yf_settledN yf_opens ya_delays ya_wit ya_near ya_life ya_set ya_next ya_ways ya_msg ya_settled R
  obtain ⟨a1, a2, a3, a4, a5, a6⟩ := R.1
  have hc := R.2.1
  have J : i_Rel (k + 3) (nI mw, nI ml, nI cap, nI N, xf_nodeCount, nI vd, xf_codeDelay, xf_witnessSize, xf_queueCount, nI T, xf_decoderOn, xf_decoderDone, xf_readSize, xf_settledAt, xf_settledSize, xa_wordCodes, xa_wordLengths, xa_nextNode, xa_wordEnd, xa_wordDelays, xa_witness, xa_witnessWords, xa_witnessCounts, xa_witnessRest, xa_startNodes, xa_pairSeen, xa_pairHeight, xa_queuePair, xa_queueFrom, xa_queueDepth, xa_queueGroup, xa_queueBit, xa_text, xa_ways, xa_openNode, xa_lastWord, xa_wordsTo, xa_settled) (nI mw, nI ml, nI cap, nI N, nI vd, yf_witLen, nI T, yf_pos, yf_finished, yf_settledN, yf_opens, xa_wordCodes, xa_wordLengths, ya_delays, ya_wit, xa_text, ya_near, ya_life, ya_set, ya_next, ya_ways, ya_msg, ya_settled) := zz_in R
  refine xw_addWord a4 a1 a2 (fun b => ?_) (fun nb d => ?_) (fun nb nd f => ?_) (fun nb nd f w l e hl => ?_)
  · exact yw_addWord a4 a1 a2 (fun _ => ⟨rfl, J⟩) (fun nb => absurd b nb) (fun nb => absurd b nb) (fun nb => absurd b nb)
  · exact yw_addWord a4 a1 a2 (fun b => absurd b nb) (fun _ _ => ⟨rfl, J⟩) (fun _ nd => absurd d nd) (fun _ nd => absurd d nd)
  · exact yw_addWord a4 a1 a2 (fun b => absurd b nb) (fun _ d => absurd d nd) (fun _ _ _ => ⟨rfl, J⟩) (fun _ _ g => absurd g f)
  · refine yw_addWord a4 a1 a2 (fun b => absurd b nb) (fun _ d => absurd d nd) (fun _ _ g => absurd f g) (fun _ _ _ w' l' e' hl' => ⟨rfl, ?_⟩)
    obtain ⟨w2, l2, e2, q1, q2⟩ := da_bad_n a2 nb
    have p1 : w = w2 := by
      have h5 := da_p9 hl.2.1 hl.2.2.2
      exact (nI_eq (by omega) (by omega)).mp (e.symm.trans e2)
    have p2 : w' = w2 := by
      have h5 := da_p9 hl'.2.1 hl'.2.2.2
      exact (nI_eq (by omega) (by omega)).mp (e'.symm.trans e2)
    subst p1; subst p2; subst e
    have el : l' = l := da_log hl'.2.2.1 hl'.2.2.2 hl.2.2.1 hl.2.2.2
    subst el
    exact zz_in (vd := 0) ⟨⟨a1, a2, a3, f, a5, by omega⟩, da_cok_add hc (by omega) hl q1 nd, R.2.2.1, rfl, fun z => absurd rfl z, fun z => by omega, fun z => by omega⟩
theorem i_vc_dropWord {k : Nat} {u : SX} {v : SY} (I : i_Rel k u v) (hk : k + 3 ≤ 1539) (v1 : Int32) : wpX_dropWord (fun r u' => wpY_dropWord (fun r' v' => r' = r ∧ i_Rel (k + 3) u' v') v v1) u v1 := by
  refine zz_el (P := fun u v => wpX_dropWord (fun r u' => wpY_dropWord (fun r' v' => r' = r ∧ i_Rel (k + 3) u' v') v v1) u v1) ?_ I
  intro mw ml cap N T vd xf_nodeCount xf_codeDelay xf_witnessSize xf_queueCount xf_decoderOn xf_decoderDone xf_readSize xf_settledAt xf_settledSize xa_wordCodes xa_wordLengths xa_nextNode xa_wordEnd xa_wordDelays xa_witness xa_witnessWords xa_witnessCounts xa_witnessRest xa_pairSeen xa_pairHeight xa_queuePair xa_queueFrom xa_queueDepth xa_queueGroup xa_queueBit xa_text xa_ways xa_openNode xa_lastWord xa_wordsTo xa_settled xa_startNodes yf_witLen yf_pos yf_finished yf_settledN yf_opens ya_delays ya_wit ya_near ya_life ya_set ya_next ya_ways ya_msg ya_settled R
  obtain ⟨a1, a2, a3, a4, a5, a6⟩ := R.1
  have hc := R.2.1
  have hN := hc.1
  have J : i_Rel (k + 3) (nI mw, nI ml, nI cap, nI N, xf_nodeCount, nI vd, xf_codeDelay, xf_witnessSize, xf_queueCount, nI T, xf_decoderOn, xf_decoderDone, xf_readSize, xf_settledAt, xf_settledSize, xa_wordCodes, xa_wordLengths, xa_nextNode, xa_wordEnd, xa_wordDelays, xa_witness, xa_witnessWords, xa_witnessCounts, xa_witnessRest, xa_startNodes, xa_pairSeen, xa_pairHeight, xa_queuePair, xa_queueFrom, xa_queueDepth, xa_queueGroup, xa_queueBit, xa_text, xa_ways, xa_openNode, xa_lastWord, xa_wordsTo, xa_settled) (nI mw, nI ml, nI cap, nI N, nI vd, yf_witLen, nI T, yf_pos, yf_finished, yf_settledN, yf_opens, xa_wordCodes, xa_wordLengths, ya_delays, ya_wit, xa_text, ya_near, ya_life, ya_set, ya_next, ya_ways, ya_msg, ya_settled) := zz_in R
  rcases da_ix3 v1 (n := N) (by omega) with h | ⟨h1, h2, h3, h4⟩ | ⟨j, hj, rfl⟩
  · unfold wpX_dropWord
    exact br_t h (br_t rfl (br_t h ⟨rfl, J⟩))
  · unfold wpX_dropWord
    exact br_f h1 (br_t h2 (br_t rfl (br_f h1 (br_f h3 ⟨rfl, J⟩))))
  · refine xw_dropWord hN hj (yw_dropWord hN hj ⟨rfl, ?_⟩)
    exact zz_in (vd := 0) ⟨⟨a1, a2, a3, by omega, a5, by omega⟩, da_cok_drop hc hj, R.2.2.1, rfl, fun z => absurd rfl z, fun z => by omega, fun z => by omega⟩
theorem i_vc_clearText {k : Nat} {u : SX} {v : SY} (I : i_Rel k u v) (hk : k + 3 ≤ 1539) : wpX_clearText (fun u' => wpY_clearText (fun v' => i_Rel (k + 3) u' v') v) u := by
  refine zz_el (P := fun u v => wpX_clearText (fun u' => wpY_clearText (fun v' => i_Rel (k + 3) u' v') v) u) ?_ I
  intro mw ml cap N T vd xf_nodeCount xf_codeDelay xf_witnessSize xf_queueCount xf_decoderOn xf_decoderDone xf_readSize xf_settledAt xf_settledSize xa_wordCodes xa_wordLengths xa_nextNode xa_wordEnd xa_wordDelays xa_witness xa_witnessWords xa_witnessCounts xa_witnessRest xa_pairSeen xa_pairHeight xa_queuePair xa_queueFrom xa_queueDepth xa_queueGroup xa_queueBit xa_text xa_ways xa_openNode xa_lastWord xa_wordsTo xa_settled xa_startNodes yf_witLen yf_pos yf_finished yf_settledN yf_opens ya_delays ya_wit ya_near ya_life ya_set ya_next ya_ways ya_msg ya_settled R
  obtain ⟨⟨a1, a2, a3, a4, a5, a6⟩, hc, ht, hd, r1, r2, r3⟩ := R
  by_cases z : vd = 3
  · rw [if_pos z] at hd
    obtain ⟨nd, nc, p, f, g1, g2, g3, g4, g5, g6, g7, g8, g9, g10⟩ := r3 z
    refine br_f (by rw [hd]; exact da_10) (xw_startDecoder (da_cok_ok hc) g3 g1.1 (fun on lw wt hdx => ?_))
    have J : i_Rel (k + 3) (nI mw, nI ml, nI cap, nI N, xf_nodeCount, nI vd, xf_codeDelay, xf_witnessSize, xf_queueCount, nI 0, 1, 0, 0, 0, 0, xa_wordCodes, xa_wordLengths, xa_nextNode, xa_wordEnd, xa_wordDelays, xa_witness, xa_witnessWords, xa_witnessCounts, xa_witnessRest, xa_startNodes, xa_pairSeen, xa_pairHeight, xa_queuePair, xa_queueFrom, xa_queueDepth, xa_queueGroup, xa_queueBit, xa_text, xa_ways, on, lw, wt, xa_settled) (nI mw, nI ml, nI cap, nI N, nI vd, yf_witLen, nI 0, 0, 0, yf_settledN, yf_opens, xa_wordCodes, xa_wordLengths, ya_delays, ya_wit, xa_text, ya_near, ya_life, ya_set, ya_next, ya_ways, ya_msg, ya_settled) :=
      zz_in ⟨⟨a1, a2, a3, a4, Nat.zero_le _, a6⟩, hc, fun x hx => by omega, by rw [if_pos z]; rfl, r1, r2, fun _ => ⟨nd, nc, 0, 0, g1, g2, g3, Nat.le_refl _, rfl, rfl, by omega, rfl, rfl, hdx _⟩⟩
    exact J
  · rw [if_neg z] at hd
    refine br_t hd ?_
    have J : i_Rel (k + 3) (nI mw, nI ml, nI cap, nI N, xf_nodeCount, nI vd, xf_codeDelay, xf_witnessSize, xf_queueCount, nI 0, xf_decoderOn, xf_decoderDone, xf_readSize, xf_settledAt, xf_settledSize, xa_wordCodes, xa_wordLengths, xa_nextNode, xa_wordEnd, xa_wordDelays, xa_witness, xa_witnessWords, xa_witnessCounts, xa_witnessRest, xa_startNodes, xa_pairSeen, xa_pairHeight, xa_queuePair, xa_queueFrom, xa_queueDepth, xa_queueGroup, xa_queueBit, xa_text, xa_ways, xa_openNode, xa_lastWord, xa_wordsTo, xa_settled) (nI mw, nI ml, nI cap, nI N, nI vd, yf_witLen, nI 0, 0, 0, yf_settledN, yf_opens, xa_wordCodes, xa_wordLengths, ya_delays, ya_wit, xa_text, ya_near, ya_life, ya_set, ya_next, ya_ways, ya_msg, ya_settled) :=
      zz_in ⟨⟨a1, a2, a3, a4, Nat.zero_le _, a6⟩, hc, fun x hx => by omega, by rw [if_neg z]; exact hd, r1, r2, fun w => absurd w z⟩
    exact J
theorem i_vc_readings {k : Nat} {u : SX} {v : SY} (I : i_Rel k u v) (hk : k + 3 ≤ 1539) : wpX_readings (fun r u' => wpY_readings (fun r' v' => r' = r ∧ i_Rel (k + 3) u' v') v) u := by
  refine zz_el (P := fun u v => wpX_readings (fun r u' => wpY_readings (fun r' v' => r' = r ∧ i_Rel (k + 3) u' v') v) u) ?_ I
  intro mw ml cap N T vd xf_nodeCount xf_codeDelay xf_witnessSize xf_queueCount xf_decoderOn xf_decoderDone xf_readSize xf_settledAt xf_settledSize xa_wordCodes xa_wordLengths xa_nextNode xa_wordEnd xa_wordDelays xa_witness xa_witnessWords xa_witnessCounts xa_witnessRest xa_pairSeen xa_pairHeight xa_queuePair xa_queueFrom xa_queueDepth xa_queueGroup xa_queueBit xa_text xa_ways xa_openNode xa_lastWord xa_wordsTo xa_settled xa_startNodes yf_witLen yf_pos yf_finished yf_settledN yf_opens ya_delays ya_wit ya_near ya_life ya_set ya_next ya_ways ya_msg ya_settled R
  obtain ⟨a1, a2, a3, a4, a5, a6⟩ := R.1
  have hc := R.2.1
  obtain ⟨G, hG⟩ := da_G_ex (t := da_tx xa_text) (da_cok_ok hc)
  refine xw_readings (t := da_tx xa_text) hc (by omega) R.2.2.1 hG (fun ways => ?_)
  unfold wpY_readings
  refine yw_countWays (sr := 0) (M := T) (t := da_tx xa_text) hc (Or.inl ⟨rfl, T, rfl, Nat.le_refl _, by omega, R.2.2.1⟩) (Nat.le_refl _) hG (fun ways' hw => ⟨?_, zz_in R⟩)
  have := hw 0 (Nat.zero_le _)
  rw [Nat.sub_zero] at this
  exact this
section
variable {xf_maxWords xf_maxLength xf_textCapacity xf_wordCount xf_nodeCount xf_found xf_codeDelay xf_witnessSize xf_queueCount xf_textSize xf_decoderOn xf_decoderDone xf_readSize xf_settledAt xf_settledSize : Int32} {xa_wordCodes xa_wordLengths xa_nextNode xa_wordEnd xa_wordDelays xa_witness xa_witnessWords xa_witnessCounts xa_witnessRest xa_pairSeen xa_pairHeight xa_queuePair xa_queueFrom xa_queueDepth xa_queueGroup xa_queueBit xa_text xa_ways xa_openNode xa_lastWord xa_wordsTo xa_settled : Nat → Int32} {xa_startNodes : Nat → Int64} {yf_maxWords yf_maxLength yf_capacity yf_n yf_verdict yf_witLen yf_textLen yf_pos yf_finished yf_settledN yf_opens : Int32} {ya_word ya_wlen ya_delays ya_wit ya_text ya_near ya_life ya_set ya_next ya_ways ya_msg ya_settled : Nat → Int32}
theorem da_clamp (p : Int32) (lo hi : Nat) (h1 : lo ≤ hi) (h2 : hi < 2 ^ 31) : ∃ m, lo ≤ m ∧ m ≤ hi ∧ (∀ post : Int32 → Prop, post (nI m) → wpX_clamp post (xf_maxWords, xf_maxLength, xf_textCapacity, xf_wordCount, xf_nodeCount, xf_found, xf_codeDelay, xf_witnessSize, xf_queueCount, xf_textSize, xf_decoderOn, xf_decoderDone, xf_readSize, xf_settledAt, xf_settledSize, xa_wordCodes, xa_wordLengths, xa_nextNode, xa_wordEnd, xa_wordDelays, xa_witness, xa_witnessWords, xa_witnessCounts, xa_witnessRest, xa_startNodes, xa_pairSeen, xa_pairHeight, xa_queuePair, xa_queueFrom, xa_queueDepth, xa_queueGroup, xa_queueBit, xa_text, xa_ways, xa_openNode, xa_lastWord, xa_wordsTo, xa_settled) p (nI lo) (nI hi)) ∧ (∀ post : Int32 → Prop, post (nI m) → wpY_clamp post (yf_maxWords, yf_maxLength, yf_capacity, yf_n, yf_verdict, yf_witLen, yf_textLen, yf_pos, yf_finished, yf_settledN, yf_opens, ya_word, ya_wlen, ya_delays, ya_wit, ya_text, ya_near, ya_life, ya_set, ya_next, ya_ways, ya_msg, ya_settled) p (nI lo) (nI hi)) := by
  by_cases z : nI lo ≤ p
  · by_cases z2 : p ≤ nI hi
    · have h0 : ¬ p < 0 := fun w => by
        have := Int32.lt_of_le_of_lt z w
        exact nI_pos (by omega) this
      obtain ⟨m, hm, rfl⟩ := nI_of h0
      exact ⟨m, (nI_leI (by omega) hm).mp z, (nI_leI hm h2).mp z2, fun post h => br_t z (br_t z2 h), fun post h => br_t z (br_t z2 h)⟩
    · exact ⟨hi, h1, Nat.le_refl _, fun post h => br_t z (br_f z2 h), fun post h => br_t z (br_f z2 h)⟩
  · exact ⟨lo, Nat.le_refl _, h1, fun post h => br_f z h, fun post h => br_f z h⟩
end
theorem i_vc0 (k0 : Int32) (k1 : Int32) (k2 : Int32) : wpX_init (fun u => wpY_init (fun v => i_Rel 3 u v) k0 k1 k2) k0 k1 k2 := by
  unfold wpX_init
  obtain ⟨mw, _, m2, mX, mY⟩ := da_clamp k0 2 8 (by omega) (by omega) (xf_maxWords := 0) (xf_maxLength := 0) (xf_textCapacity := 0) (xf_wordCount := 0) (xf_nodeCount := 0) (xf_found := 0) (xf_codeDelay := 0) (xf_witnessSize := 0) (xf_queueCount := 0) (xf_textSize := 0) (xf_decoderOn := 0) (xf_decoderDone := 0) (xf_readSize := 0) (xf_settledAt := 0) (xf_settledSize := 0) (xa_wordCodes := fun _ => 0) (xa_wordLengths := fun _ => 0) (xa_nextNode := fun _ => 0) (xa_wordEnd := fun _ => 0) (xa_wordDelays := fun _ => 0) (xa_witness := fun _ => 0) (xa_witnessWords := fun _ => 0) (xa_witnessCounts := fun _ => 0) (xa_witnessRest := fun _ => 0) (xa_startNodes := fun _ => 0) (xa_pairSeen := fun _ => 0) (xa_pairHeight := fun _ => 0) (xa_queuePair := fun _ => 0) (xa_queueFrom := fun _ => 0) (xa_queueDepth := fun _ => 0) (xa_queueGroup := fun _ => 0) (xa_queueBit := fun _ => 0) (xa_text := fun _ => 0) (xa_ways := fun _ => 0) (xa_openNode := fun _ => 0) (xa_lastWord := fun _ => 0) (xa_wordsTo := fun _ => 0) (xa_settled := fun _ => 0) (yf_maxWords := 0) (yf_maxLength := 0) (yf_capacity := 0) (yf_n := 0) (yf_verdict := 0) (yf_witLen := 0) (yf_textLen := 0) (yf_pos := 0) (yf_finished := 0) (yf_settledN := 0) (yf_opens := 0) (ya_word := fun _ => 0) (ya_wlen := fun _ => 0) (ya_delays := fun _ => 0) (ya_wit := fun _ => 0) (ya_text := fun _ => 0) (ya_near := fun _ => 0) (ya_life := fun _ => 0) (ya_set := fun _ => 0) (ya_next := fun _ => 0) (ya_ways := fun _ => 0) (ya_msg := fun _ => 0) (ya_settled := fun _ => 0)
  obtain ⟨ml, _, l2, lX, lY⟩ := da_clamp k1 2 8 (by omega) (by omega) (xf_maxWords := nI mw) (xf_maxLength := 0) (xf_textCapacity := 0) (xf_wordCount := 0) (xf_nodeCount := 0) (xf_found := 0) (xf_codeDelay := 0) (xf_witnessSize := 0) (xf_queueCount := 0) (xf_textSize := 0) (xf_decoderOn := 0) (xf_decoderDone := 0) (xf_readSize := 0) (xf_settledAt := 0) (xf_settledSize := 0) (xa_wordCodes := fun _ => 0) (xa_wordLengths := fun _ => 0) (xa_nextNode := fun _ => 0) (xa_wordEnd := fun _ => 0) (xa_wordDelays := fun _ => 0) (xa_witness := fun _ => 0) (xa_witnessWords := fun _ => 0) (xa_witnessCounts := fun _ => 0) (xa_witnessRest := fun _ => 0) (xa_startNodes := fun _ => 0) (xa_pairSeen := fun _ => 0) (xa_pairHeight := fun _ => 0) (xa_queuePair := fun _ => 0) (xa_queueFrom := fun _ => 0) (xa_queueDepth := fun _ => 0) (xa_queueGroup := fun _ => 0) (xa_queueBit := fun _ => 0) (xa_text := fun _ => 0) (xa_ways := fun _ => 0) (xa_openNode := fun _ => 0) (xa_lastWord := fun _ => 0) (xa_wordsTo := fun _ => 0) (xa_settled := fun _ => 0) (yf_maxWords := nI mw) (yf_maxLength := 0) (yf_capacity := 0) (yf_n := 0) (yf_verdict := 0) (yf_witLen := 0) (yf_textLen := 0) (yf_pos := 0) (yf_finished := 0) (yf_settledN := 0) (yf_opens := 0) (ya_word := fun _ => 0) (ya_wlen := fun _ => 0) (ya_delays := fun _ => 0) (ya_wit := fun _ => 0) (ya_text := fun _ => 0) (ya_near := fun _ => 0) (ya_life := fun _ => 0) (ya_set := fun _ => 0) (ya_next := fun _ => 0) (ya_ways := fun _ => 0) (ya_msg := fun _ => 0) (ya_settled := fun _ => 0)
  obtain ⟨cap, _, c2, cX, cY⟩ := da_clamp k2 16 256 (by omega) (by omega) (xf_maxWords := nI mw) (xf_maxLength := nI ml) (xf_textCapacity := 0) (xf_wordCount := 0) (xf_nodeCount := 0) (xf_found := 0) (xf_codeDelay := 0) (xf_witnessSize := 0) (xf_queueCount := 0) (xf_textSize := 0) (xf_decoderOn := 0) (xf_decoderDone := 0) (xf_readSize := 0) (xf_settledAt := 0) (xf_settledSize := 0) (xa_wordCodes := fun _ => 0) (xa_wordLengths := fun _ => 0) (xa_nextNode := fun _ => 0) (xa_wordEnd := fun _ => 0) (xa_wordDelays := fun _ => 0) (xa_witness := fun _ => 0) (xa_witnessWords := fun _ => 0) (xa_witnessCounts := fun _ => 0) (xa_witnessRest := fun _ => 0) (xa_startNodes := fun _ => 0) (xa_pairSeen := fun _ => 0) (xa_pairHeight := fun _ => 0) (xa_queuePair := fun _ => 0) (xa_queueFrom := fun _ => 0) (xa_queueDepth := fun _ => 0) (xa_queueGroup := fun _ => 0) (xa_queueBit := fun _ => 0) (xa_text := fun _ => 0) (xa_ways := fun _ => 0) (xa_openNode := fun _ => 0) (xa_lastWord := fun _ => 0) (xa_wordsTo := fun _ => 0) (xa_settled := fun _ => 0) (yf_maxWords := nI mw) (yf_maxLength := nI ml) (yf_capacity := 0) (yf_n := 0) (yf_verdict := 0) (yf_witLen := 0) (yf_textLen := 0) (yf_pos := 0) (yf_finished := 0) (yf_settledN := 0) (yf_opens := 0) (ya_word := fun _ => 0) (ya_wlen := fun _ => 0) (ya_delays := fun _ => 0) (ya_wit := fun _ => 0) (ya_text := fun _ => 0) (ya_near := fun _ => 0) (ya_life := fun _ => 0) (ya_set := fun _ => 0) (ya_next := fun _ => 0) (ya_ways := fun _ => 0) (ya_msg := fun _ => 0) (ya_settled := fun _ => 0)
  refine mX _ (lX _ (cX _ ?_))
  unfold wpY_init
  refine mY _ (lY _ (cY _ ?_))
  exact zz_in (N := 0) (T := 0) (vd := 0) ⟨⟨m2, l2, c2, Nat.zero_le _, Nat.zero_le _, Nat.zero_le _⟩, ⟨Nat.zero_le _, fun k hk => by omega, fun a b ha => by omega⟩, fun x hx => by omega, rfl, fun z => absurd rfl z, fun z => by omega, fun z => by omega⟩
end
section
/-! analyse -/
theorem i_vc_analyse {k : Nat} {u : SX} {v : SY} (I : i_Rel k u v) (hk : k + 3 ≤ 1539) : wpX_analyse (fun r u' => wpY_analyse (fun r' v' => r' = r ∧ i_Rel (k + 3) u' v') v) u := by
  refine zz_el (P := fun u v => wpX_analyse (fun r u' => wpY_analyse (fun r' v' => r' = r ∧ i_Rel (k + 3) u' v') v) u) ?_ I
  intro mw ml cap N T vd xf_nodeCount xf_codeDelay xf_witnessSize xf_queueCount xf_decoderOn xf_decoderDone xf_readSize xf_settledAt xf_settledSize xa_wordCodes xa_wordLengths xa_nextNode xa_wordEnd xa_wordDelays xa_witness xa_witnessWords xa_witnessCounts xa_witnessRest xa_pairSeen xa_pairHeight xa_queuePair xa_queueFrom xa_queueDepth xa_queueGroup xa_queueBit xa_text xa_ways xa_openNode xa_lastWord xa_wordsTo xa_settled xa_startNodes yf_witLen yf_pos yf_finished yf_settledN yf_opens ya_delays ya_wit ya_near ya_life ya_set ya_next ya_ways ya_msg ya_settled R
  have J : i_Rel (k + 3) (nI mw, nI ml, nI cap, nI N, xf_nodeCount, nI vd, xf_codeDelay, xf_witnessSize, xf_queueCount, nI T, xf_decoderOn, xf_decoderDone, xf_readSize, xf_settledAt, xf_settledSize, xa_wordCodes, xa_wordLengths, xa_nextNode, xa_wordEnd, xa_wordDelays, xa_witness, xa_witnessWords, xa_witnessCounts, xa_witnessRest, xa_startNodes, xa_pairSeen, xa_pairHeight, xa_queuePair, xa_queueFrom, xa_queueDepth, xa_queueGroup, xa_queueBit, xa_text, xa_ways, xa_openNode, xa_lastWord, xa_wordsTo, xa_settled) (nI mw, nI ml, nI cap, nI N, nI vd, yf_witLen, nI T, yf_pos, yf_finished, yf_settledN, yf_opens, xa_wordCodes, xa_wordLengths, ya_delays, ya_wit, xa_text, ya_near, ya_life, ya_set, ya_next, ya_ways, ya_msg, ya_settled) := zz_in R
  obtain ⟨⟨a1, a2, a3, a4, a5, a6⟩, hc, htx, -, -, -, -⟩ := R
  have hok := da_cok_ok hc
  have hN8 := hc.1
  refine pk_eq N 0 (fun z => yw_analyse hc (fun _ => ⟨rfl, J⟩) (fun w => by omega)) (fun z => ?_)
  have hN : 0 < N := by omega
  clear J
  refine nm_e (nm_e ?_)
  refine xw_buildTrie hc hN (fun nd nc nx we ht => ?_)
  refine xw_findDelays hc ht (fun d wd sn ph seen0 qp0 qc0 qf0 qd0 qg0 qb0 hd => ?_)
  have mxl : da_mx d N ≤ 4097 := da_mx_le (fun k hk => (hd k hk).2.1)
  have eqd : ∀ d' : Nat → Nat, ∀ delays : Nat → Int32, (∀ k, k < N → delays k = nI (d' k) ∧ d' k ≤ 1000 ∧ da_dl (da_AY N (da_L xa_wordLengths) (da_B xa_wordCodes xa_wordLengths) k) (d' k)) → ∀ k, k < N → d k = d' k := by
    intro d' delays h k hk
    exact da_dl_u (da_dl_c (fun m => da_A_eq hok ht hk m) (hd k hk).2.2) (h k hk).2.2
  have dly : ∀ d' : Nat → Nat, ∀ delays : Nat → Int32, (∀ k, k < N → delays k = nI (d' k) ∧ d' k ≤ 1000 ∧ da_dl (da_AY N (da_L xa_wordLengths) (da_B xa_wordCodes xa_wordLengths) k) (d' k)) → da_dly N (nI (da_mx d N)) wd delays := by
    intro d' delays h
    have ed := eqd d' delays h
    exact ⟨d, fun k hk => ⟨(hd k hk).1, by rw [(h k hk).1, ed k hk], by rw [ed k hk]; exact (h k hk).2.1⟩, rfl⟩
  refine xw_findWitness hok ht (fun bs wt seen qp qf qd qg qb qc hax hmin hl1 hl2 hwt => ?_) (fun seen qp qf qd qg qb qc hnone => ?_)
  · have hbb := da_ax_b (fun _ _ _ h => da_xt_b hok h) hax
    have gb : ∀ j, bs.getD j 0 < 2 := by
      intro j
      rw [List.getD_eq_getElem?_getD]
      rcases Nat.lt_or_ge j bs.length with y | y
      · rw [List.getElem?_eq_getElem y]; exact hbb _ (List.getElem_mem y)
      · rw [List.getElem?_eq_none y]; simp
    refine br_f da_10 (xw_findWitnessReadings (z := fun j => bs.getD j 0) hc hl2 hl1 (fun j hj => ⟨hwt j hj, gb j⟩) (fun rs wc ww hgw => ?_))
    refine yw_analyse hc (fun w => by omega) (fun _ vd' wl wit d' delays near life set next hdl hyr => ?_)
    rcases hyr with ⟨v1, bs', b1, b2, b3, b4, b5⟩ | ⟨v1, b1, _⟩ | ⟨v1, b1, _⟩
    · have e := da_min_eq hok ht.1 hax hmin b1 b2
      subst e; subst v1; subst b3
      refine ⟨rfl, zz_in (vd := 1) ⟨⟨a1, a2, a3, a4, a5, by omega⟩, hc, htx, rfl, fun _ => dly d' delays hdl, fun _ => ⟨bs.length, fun j => bs.getD j 0, hl1, hl2, rfl, rfl, fun j hj => ⟨hwt j hj, b5 j hj, gb j⟩, hgw⟩, fun w => by omega⟩⟩
    · exfalso
      obtain ⟨p, q, _, h⟩ := da_ax_ay hok ((da_ax_xt hok ht.1).mp hax)
      exact b1 q h
    · exfalso
      obtain ⟨p, q, _, h⟩ := da_ax_ay hok ((da_ax_xt hok ht.1).mp hax)
      exact b1 q h
  · have hna : ∀ bs, ¬ da_ay N (da_L xa_wordLengths) (da_B xa_wordCodes xa_wordLengths) bs := by
      intro bs h
      obtain ⟨p, q, _, h'⟩ := da_ay_ax hok h
      exact hnone p ((da_ax_xt hok ht.1).mpr h')
    refine br_t rfl (pk_eq (da_mx d N) 1000 (fun z1 => ?_) (fun z1 => ?_))
    · refine yw_analyse hc (fun w => by omega) (fun _ vd' wl wit d' delays near life set next hdl hyr => ?_)
      have ed := eqd d' delays hdl
      rcases hyr with ⟨v1, bs', b1, _⟩ | ⟨v1, _, _⟩ | ⟨v1, _, b2⟩
      · exact absurd b1 (hna bs')
      · subst v1
        exact ⟨rfl, zz_in (vd := 2) ⟨⟨a1, a2, a3, a4, a5, by omega⟩, hc, htx, rfl, fun _ => dly d' delays hdl, fun w => by omega, fun w => by omega⟩⟩
      · exfalso
        obtain ⟨k, k1, k2⟩ := da_mx_ex (d := d) (n := N) (by omega)
        exact b2 k k1 (by rw [← ed k k1, k2, z1])
    · refine xw_startDecoder hok hN ht.1 (fun on lw wt hdx => ?_)
      refine yw_analyse hc (fun w => by omega) (fun _ vd' wl wit d' delays near life set next hdl hyr => ?_)
      have ed := eqd d' delays hdl
      rcases hyr with ⟨v1, bs', b1, _⟩ | ⟨v1, _, k, k1, k2⟩ | ⟨v1, _, _⟩
      · exact absurd b1 (hna bs')
      · exfalso
        have g1 := da_mx_ge (d := d) k1
        have g2 : da_mx d N ≤ 1000 := da_mx_le (fun j hj => by rw [ed j hj]; exact (hdl j hj).2.1)
        have := ed k k1
        omega
      · subst v1
        exact ⟨rfl, zz_in (vd := 3) ⟨⟨a1, a2, a3, a4, a5, by omega⟩, hc, htx, rfl, fun _ => dly d' delays hdl, fun w => by omega, fun _ => ⟨nd, nc, 0, 0, ht, hna, hN, Nat.zero_le _, rfl, rfl, by omega, rfl, rfl, hdx _⟩⟩⟩
end
section
/-! the witness words and the decoder calls -/
theorem i_vc_witnessWord {k : Nat} {u : SX} {v : SY} (I : i_Rel k u v) (hk : k + 3 ≤ 1539) (v1 : Int32) (v2 : Int32) : wpX_witnessWord (fun r => wpY_witnessWord (fun r' v' => r' = r ∧ i_Rel (k + 3) u v') v v1 v2) u v1 v2 := by
  refine zz_el (P := fun u v => wpX_witnessWord (fun r => wpY_witnessWord (fun r' v' => r' = r ∧ i_Rel (k + 3) u v') v v1 v2) u v1 v2) ?_ I
  intro mw ml cap N T vd xf_nodeCount xf_codeDelay xf_witnessSize xf_queueCount xf_decoderOn xf_decoderDone xf_readSize xf_settledAt xf_settledSize xa_wordCodes xa_wordLengths xa_nextNode xa_wordEnd xa_wordDelays xa_witness xa_witnessWords xa_witnessCounts xa_witnessRest xa_pairSeen xa_pairHeight xa_queuePair xa_queueFrom xa_queueDepth xa_queueGroup xa_queueBit xa_text xa_ways xa_openNode xa_lastWord xa_wordsTo xa_settled xa_startNodes yf_witLen yf_pos yf_finished yf_settledN yf_opens ya_delays ya_wit ya_near ya_life ya_set ya_next ya_ways ya_msg ya_settled R
  have J : i_Rel (k + 3) (nI mw, nI ml, nI cap, nI N, xf_nodeCount, nI vd, xf_codeDelay, xf_witnessSize, xf_queueCount, nI T, xf_decoderOn, xf_decoderDone, xf_readSize, xf_settledAt, xf_settledSize, xa_wordCodes, xa_wordLengths, xa_nextNode, xa_wordEnd, xa_wordDelays, xa_witness, xa_witnessWords, xa_witnessCounts, xa_witnessRest, xa_startNodes, xa_pairSeen, xa_pairHeight, xa_queuePair, xa_queueFrom, xa_queueDepth, xa_queueGroup, xa_queueBit, xa_text, xa_ways, xa_openNode, xa_lastWord, xa_wordsTo, xa_settled) (nI mw, nI ml, nI cap, nI N, nI vd, yf_witLen, nI T, yf_pos, yf_finished, yf_settledN, yf_opens, xa_wordCodes, xa_wordLengths, ya_delays, ya_wit, xa_text, ya_near, ya_life, ya_set, ya_next, ya_ways, ya_msg, ya_settled) := zz_in R
  have hv := R.1
  have hc := R.2.1
  have hok := da_cok_ok hc
  refine pk_eq vd 1 (fun z => ?_) (fun z => ?_)
  · obtain ⟨m, zz, m1, m2, e1, e2, e3, e4⟩ := R.2.2.2.2.2.1 z
    subst z
    subst e2
    have sc : da_sc 1 m zz (nI 1) (nI m) (nI T) xa_text ya_wit := Or.inr ⟨rfl, rfl, rfl, by omega, fun x hx => ⟨(e3 x hx).2.1, (e3 x hx).2.2⟩⟩
    rcases da_ix3 v1 (n := 2) (by omega) with h | ⟨h1, h2, h3, h4⟩ | ⟨wh, hwh, rfl⟩
    · exact br_t h (br_t rfl (br_t h ⟨rfl, J⟩))
    · have q1 : ¬ v1 ≤ 1 := fun w => h3 (Int32.lt_of_le_of_lt w (by decide))
      have q2 : 1 < v1 := Int32.not_le.mp q1
      exact br_f h1 (br_f q1 (br_t rfl (br_f h1 (br_t q2 ⟨rfl, J⟩))))
    · have cw : (nI wh).toNatClampNeg = wh := nI_clamp (by omega)
      have w1 : nI wh ≤ 1 := nI_le (b := 1) (by omega) (by omega)
      have w2 : ¬ 1 < nI wh := nI_nlt (a := 1) (by omega) (by omega)
      refine br_f (nI_pos (by omega)) (br_t w1 ?_)
      by_cases z2 : v2 < 0
      · exact br_t z2 (br_t rfl (br_f (nI_pos (by omega)) (br_f w2 (br_f (da_lt0 z2) ⟨rfl, J⟩))))
      · have yy : ∀ post : Int32 → SY → Prop, wY_witnessWord_39 post v2 (nI wh) (nI m) 1 (nI mw) (nI ml) (nI cap) (nI N) (nI 1) (nI m) (nI T) yf_pos yf_finished yf_settledN yf_opens xa_wordCodes xa_wordLengths ya_delays ya_wit xa_text ya_near ya_life ya_set ya_next ya_ways ya_msg ya_settled → wpY_witnessWord post (nI mw, nI ml, nI cap, nI N, nI 1, nI m, nI T, yf_pos, yf_finished, yf_settledN, yf_opens, xa_wordCodes, xa_wordLengths, ya_delays, ya_wit, xa_text, ya_near, ya_life, ya_set, ya_next, ya_ways, ya_msg, ya_settled) (nI wh) v2 := by
          intro post h
          refine br_t rfl (br_f (nI_pos (by omega)) (br_f w2 (br_t (Int32.not_lt.mp z2) ?_)))
          have : wh = 0 ∨ wh = 1 := by omega
          rcases this with e | e
          · subst e; exact br_f da_01 h
          · subst e; exact br_t rfl h
        refine br_f z2 ⟨vp_in_nI (by omega) (by omega), ?_⟩
        rw [cw]
        rcases e4 wh hwh with ⟨l, g1, g2, g3, g4⟩ | ⟨g1, g2⟩
        · rw [g2]
          rcases da_ix3 v2 (n := l.length) (by omega) with h | ⟨h1, h2, h3, h4⟩ | ⟨j, hj, rfl⟩
          · exact absurd h z2
          · refine br_f h3 (yy _ ?_)
            unfold wY_witnessWord_39
            refine yw_read (sr := 1) (M := m) (t := zz) (wh := wh) hc sc (Nat.le_refl _) hwh (fun l' ways msg f1 f2 f3 => ?_) (fun ways msg f1 => absurd ⟨l, da_gr_rd _ _ g1⟩ f1)
            have := da_gr_u hok _ _ _ f1 g1
            subst this
            exact br_f h3 ⟨rfl, zz_in R⟩
          · have ei : nI wh * 256 + nI j = nI (wh * 256 + j) := by rw [show (256 : Int32) = nI 256 from rfl, pk_mul, nI_add]
            have cj : (nI j).toNatClampNeg = j := nI_clamp (by omega)
            rw [ei, nI_clamp (show wh * 256 + j < 2 ^ 31 by omega), g4 j hj]
            refine br_t (nI_lt hj (by omega)) ⟨vp_in_nI (by omega) (by omega), yy _ ?_⟩
            unfold wY_witnessWord_39
            refine yw_read (sr := 1) (M := m) (t := zz) (wh := wh) hc sc (Nat.le_refl _) hwh (fun l' ways msg f1 f2 f3 => ?_) (fun ways msg f1 => absurd ⟨l, da_gr_rd _ _ g1⟩ f1)
            have := da_gr_u hok _ _ _ f1 g1
            subst this
            refine br_t (nI_lt hj (by omega)) ⟨vp_in_nI (by omega) (by omega), ?_, zz_in R⟩
            rw [cj]; exact f3 j hj
        · rw [g2]
          refine br_f z2 (yy _ ?_)
          unfold wY_witnessWord_39
          refine yw_read (sr := 1) (M := m) (t := zz) (wh := wh) hc sc (Nat.le_refl _) hwh (fun l' ways msg f1 f2 f3 => absurd ⟨l', da_gr_rd _ _ f1⟩ g1) (fun ways msg f1 => ?_)
          exact br_f (fun w => z2 (Int32.lt_trans w da_neg1)) ⟨rfl, zz_in R⟩
  · have z' : ¬ nI vd = 1 := fun w => z ((nI_eq (b := 1) (by omega) (by omega)).mp w)
    exact br_f z' ⟨rfl, J⟩
/-- what settle finds is what the component holds -/
theorem da_dx_set {N : Nat} {L : Nat → Nat} {B : Nat → Nat → Nat} {nd : Nat → Nat → Nat} {t : Nat → Nat} {p f : Nat} {on lw wt : Nat → Int32} {sa ss : Int32} {st : Nat → Int32} (hk : da_ok N L B) (hN : 0 < N) (hna : ∀ bs, ¬ da_ay N L B bs) (h : da_dx N L B nd t p f on lw wt sa ss st) :
    ∃ S, ss = nI S.length ∧ S.length ≤ p ∧ (∀ j, j < S.length → st j = nI (S.getD j 0)) ∧ 0 < da_cn (da_oi N L B t f p) (p + 1) ∧ ∀ S', da_lc (da_ol N L B t f p (p + 1)) S' → S' = S := by
  obtain ⟨_, _, S, a, e1, e2, e3, e4, e5, e6, e7⟩ := h
  have le := da_rd_le hk _ _ _ e3
  have one : ∀ i, i < p + 1 → da_oi N L B t f p i → 0 < da_cn (da_oi N L B t f p) (p + 1) := by
    intro i hi ho
    have := da_cn_lt (P := fun _ => False) (Q := da_oi N L B t f p) (a := i) (n := p + 1) (fun z => z) ho (fun _ _ z => z.elim) hi
    omega
  by_cases z : f = 0
  · subst z
    have lc := e6 rfl
    obtain ⟨l, i, i1, i2, i3⟩ := da_lc_ne lc
    refine ⟨S, e4, by omega, e5, one i (by omega) ⟨fun w => absurd rfl w, i2, l, i3⟩, fun S' hS' => da_lc_u hS' (da_lc_c (fun l => ?_) lc)⟩
    constructor
    · rintro ⟨i, i1, i2, i3⟩
      exact ⟨i, by omega, fun w => absurd rfl w, i2, da_gr_of hk hna i3⟩
    · rintro ⟨i, i1, _, i2, i3⟩
      exact ⟨i, by omega, i2, da_gr_rd _ _ i3⟩
  · have ea := e7 z
    subst ea
    refine ⟨S, e4, by omega, e5, one a (by omega) ⟨fun _ => rfl, Or.inl rfl, S, e3⟩, fun S' hS' => da_lc_u hS' (da_lc_1 (fun l => ?_))⟩
    constructor
    · rintro ⟨i, i1, i2, i3, i4⟩
      have := i2 z
      subst this
      exact da_rd_uniq hk hna _ _ _ _ (da_gr_rd _ _ i4) e3
    · intro e
      subst e
      exact ⟨a, by omega, fun _ => rfl, Or.inl rfl, da_gr_of hk hna e3⟩
theorem i_vc_position {k : Nat} {u : SX} {v : SY} (I : i_Rel k u v) (hk : k + 3 ≤ 1539) : wpX_position (fun r => wpY_position (fun r' => r' = r ∧ i_Rel (k + 3) u v) v) u := by
  refine zz_el (P := fun u v => wpX_position (fun r => wpY_position (fun r' => r' = r ∧ i_Rel (k + 3) u v) v) u) ?_ I
  intro mw ml cap N T vd xf_nodeCount xf_codeDelay xf_witnessSize xf_queueCount xf_decoderOn xf_decoderDone xf_readSize xf_settledAt xf_settledSize xa_wordCodes xa_wordLengths xa_nextNode xa_wordEnd xa_wordDelays xa_witness xa_witnessWords xa_witnessCounts xa_witnessRest xa_pairSeen xa_pairHeight xa_queuePair xa_queueFrom xa_queueDepth xa_queueGroup xa_queueBit xa_text xa_ways xa_openNode xa_lastWord xa_wordsTo xa_settled xa_startNodes yf_witLen yf_pos yf_finished yf_settledN yf_opens ya_delays ya_wit ya_near ya_life ya_set ya_next ya_ways ya_msg ya_settled R
  have J : i_Rel (k + 3) (nI mw, nI ml, nI cap, nI N, xf_nodeCount, nI vd, xf_codeDelay, xf_witnessSize, xf_queueCount, nI T, xf_decoderOn, xf_decoderDone, xf_readSize, xf_settledAt, xf_settledSize, xa_wordCodes, xa_wordLengths, xa_nextNode, xa_wordEnd, xa_wordDelays, xa_witness, xa_witnessWords, xa_witnessCounts, xa_witnessRest, xa_startNodes, xa_pairSeen, xa_pairHeight, xa_queuePair, xa_queueFrom, xa_queueDepth, xa_queueGroup, xa_queueBit, xa_text, xa_ways, xa_openNode, xa_lastWord, xa_wordsTo, xa_settled) (nI mw, nI ml, nI cap, nI N, nI vd, yf_witLen, nI T, yf_pos, yf_finished, yf_settledN, yf_opens, xa_wordCodes, xa_wordLengths, ya_delays, ya_wit, xa_text, ya_near, ya_life, ya_set, ya_next, ya_ways, ya_msg, ya_settled) := zz_in R
  have hv := R.1
  have hd := R.2.2.2.1
  by_cases z : vd = 3
  · rw [if_pos z] at hd
    obtain ⟨nd, nc, p, f, g1, g2, g3, g4, g5, g6, g7, g8, g9, g10⟩ := R.2.2.2.2.2.2 z
    subst z
    exact br_f (by rw [hd]; exact da_10) (br_t rfl ⟨by rw [g5, g6], J⟩)
  · rw [if_neg z] at hd
    exact br_t hd (br_f (fun w => z ((nI_eq (b := 3) (by omega) (by omega)).mp w)) ⟨rfl, J⟩)
theorem i_vc_settledCount {k : Nat} {u : SX} {v : SY} (I : i_Rel k u v) (hk : k + 3 ≤ 1539) : wpX_settledCount (fun r => wpY_settledCount (fun r' v' => r' = r ∧ i_Rel (k + 3) u v') v) u := by
  refine zz_el (P := fun u v => wpX_settledCount (fun r => wpY_settledCount (fun r' v' => r' = r ∧ i_Rel (k + 3) u v') v) u) ?_ I
  intro mw ml cap N T vd xf_nodeCount xf_codeDelay xf_witnessSize xf_queueCount xf_decoderOn xf_decoderDone xf_readSize xf_settledAt xf_settledSize xa_wordCodes xa_wordLengths xa_nextNode xa_wordEnd xa_wordDelays xa_witness xa_witnessWords xa_witnessCounts xa_witnessRest xa_pairSeen xa_pairHeight xa_queuePair xa_queueFrom xa_queueDepth xa_queueGroup xa_queueBit xa_text xa_ways xa_openNode xa_lastWord xa_wordsTo xa_settled xa_startNodes yf_witLen yf_pos yf_finished yf_settledN yf_opens ya_delays ya_wit ya_near ya_life ya_set ya_next ya_ways ya_msg ya_settled R
  have J : i_Rel (k + 3) (nI mw, nI ml, nI cap, nI N, xf_nodeCount, nI vd, xf_codeDelay, xf_witnessSize, xf_queueCount, nI T, xf_decoderOn, xf_decoderDone, xf_readSize, xf_settledAt, xf_settledSize, xa_wordCodes, xa_wordLengths, xa_nextNode, xa_wordEnd, xa_wordDelays, xa_witness, xa_witnessWords, xa_witnessCounts, xa_witnessRest, xa_startNodes, xa_pairSeen, xa_pairHeight, xa_queuePair, xa_queueFrom, xa_queueDepth, xa_queueGroup, xa_queueBit, xa_text, xa_ways, xa_openNode, xa_lastWord, xa_wordsTo, xa_settled) (nI mw, nI ml, nI cap, nI N, nI vd, yf_witLen, nI T, yf_pos, yf_finished, yf_settledN, yf_opens, xa_wordCodes, xa_wordLengths, ya_delays, ya_wit, xa_text, ya_near, ya_life, ya_set, ya_next, ya_ways, ya_msg, ya_settled) := zz_in R
  have hv := R.1
  have hd := R.2.2.2.1
  have hc := R.2.1
  by_cases z : vd = 3
  · rw [if_pos z] at hd
    obtain ⟨nd, nc, p, f, g1, g2, g3, g4, g5, g6, g7, g8, g9, g10⟩ := R.2.2.2.2.2.2 z
    obtain ⟨S, s1, s2, s3, s4, s5⟩ := da_dx_set (da_cok_ok hc) g3 g2 g10
    subst z
    refine br_f (by rw [hd]; exact da_10) (br_t rfl ?_)
    rw [g6]
    refine yw_settle (T := T) (t := da_tx xa_text) (fin := f) hc (Or.inl ⟨rfl, T, rfl, Nat.le_refl _, by omega, R.2.2.1⟩) g4 g7 g9 (fun S' c ways msg settled h1 h2 h3 h4 h5 => ?_)
    rw [← h1] at s4
    have e := s5 S' (h3 s4)
    subst e
    rw [← g6]
    exact ⟨s1.symm, zz_in R⟩
  · rw [if_neg z] at hd
    exact br_t hd (br_f (fun w => z ((nI_eq (b := 3) (by omega) (by omega)).mp w)) ⟨rfl, J⟩)
theorem i_vc_settledWord {k : Nat} {u : SX} {v : SY} (I : i_Rel k u v) (hk : k + 3 ≤ 1539) (v1 : Int32) : wpX_settledWord (fun r => wpY_settledWord (fun r' v' => r' = r ∧ i_Rel (k + 3) u v') v v1) u v1 := by
  refine zz_el (P := fun u v => wpX_settledWord (fun r => wpY_settledWord (fun r' v' => r' = r ∧ i_Rel (k + 3) u v') v v1) u v1) ?_ I
  intro mw ml cap N T vd xf_nodeCount xf_codeDelay xf_witnessSize xf_queueCount xf_decoderOn xf_decoderDone xf_readSize xf_settledAt xf_settledSize xa_wordCodes xa_wordLengths xa_nextNode xa_wordEnd xa_wordDelays xa_witness xa_witnessWords xa_witnessCounts xa_witnessRest xa_pairSeen xa_pairHeight xa_queuePair xa_queueFrom xa_queueDepth xa_queueGroup xa_queueBit xa_text xa_ways xa_openNode xa_lastWord xa_wordsTo xa_settled xa_startNodes yf_witLen yf_pos yf_finished yf_settledN yf_opens ya_delays ya_wit ya_near ya_life ya_set ya_next ya_ways ya_msg ya_settled R
  have J : i_Rel (k + 3) (nI mw, nI ml, nI cap, nI N, xf_nodeCount, nI vd, xf_codeDelay, xf_witnessSize, xf_queueCount, nI T, xf_decoderOn, xf_decoderDone, xf_readSize, xf_settledAt, xf_settledSize, xa_wordCodes, xa_wordLengths, xa_nextNode, xa_wordEnd, xa_wordDelays, xa_witness, xa_witnessWords, xa_witnessCounts, xa_witnessRest, xa_startNodes, xa_pairSeen, xa_pairHeight, xa_queuePair, xa_queueFrom, xa_queueDepth, xa_queueGroup, xa_queueBit, xa_text, xa_ways, xa_openNode, xa_lastWord, xa_wordsTo, xa_settled) (nI mw, nI ml, nI cap, nI N, nI vd, yf_witLen, nI T, yf_pos, yf_finished, yf_settledN, yf_opens, xa_wordCodes, xa_wordLengths, ya_delays, ya_wit, xa_text, ya_near, ya_life, ya_set, ya_next, ya_ways, ya_msg, ya_settled) := zz_in R
  have hv := R.1
  have hd := R.2.2.2.1
  have hc := R.2.1
  by_cases z : vd = 3
  · rw [if_pos z] at hd
    obtain ⟨nd, nc, p, f, g1, g2, g3, g4, g5, g6, g7, g8, g9, g10⟩ := R.2.2.2.2.2.2 z
    obtain ⟨S, s1, s2, s3, s4, s5⟩ := da_dx_set (da_cok_ok hc) g3 g2 g10
    subst z
    refine br_f (by rw [hd]; exact da_10) ?_
    have sc : da_sc 0 T (da_tx xa_text) (nI 3) yf_witLen (nI T) xa_text ya_wit := Or.inl ⟨rfl, T, rfl, Nat.le_refl _, by omega, R.2.2.1⟩
    rcases da_ix3 v1 (n := S.length) (by omega) with h | ⟨h1, h2, h3, h4⟩ | ⟨j, hj, rfl⟩
    · exact br_t h (br_t rfl (br_f (da_lt0 h) ⟨rfl, J⟩))
    · refine br_f h1 (br_f (by rw [s1]; exact h3) (br_t rfl (br_t h4 ?_)))
      rw [g6]
      refine yw_settle (T := T) (t := da_tx xa_text) (fin := f) hc sc g4 g7 g9 (fun S' c ways msg settled q1 q2 q3 q4 q5 => ?_)
      rw [← q1] at s4
      have e := s5 S' (q3 s4)
      subst e
      rw [← g6]
      exact br_f h3 ⟨rfl, zz_in R⟩
    · have cj : (nI j).toNatClampNeg = j := nI_clamp (by omega)
      refine br_f (nI_pos (by omega)) (br_t (by rw [s1]; exact nI_lt hj (by omega)) ⟨vp_in_nI (by omega) (by omega), br_t rfl (br_t (nI_pos' (by omega)) ?_)⟩)
      rw [g6]
      refine yw_settle (T := T) (t := da_tx xa_text) (fin := f) hc sc g4 g7 g9 (fun S' c ways msg settled q1 q2 q3 q4 q5 => ?_)
      rw [← q1] at s4
      have e := s5 S' (q3 s4)
      subst e
      rw [← g6]
      refine br_t (nI_lt hj (by omega)) ⟨vp_in_nI (by omega) (by omega), ?_, zz_in R⟩
      rw [cj, q4 j hj, s3 j hj]
  · rw [if_neg z] at hd
    exact br_t hd (br_f (fun w => z ((nI_eq (b := 3) (by omega) (by omega)).mp w)) ⟨rfl, J⟩)
theorem i_vc_openReadings {k : Nat} {u : SX} {v : SY} (I : i_Rel k u v) (hk : k + 3 ≤ 1539) : wpX_openReadings (fun r => wpY_openReadings (fun r' v' => r' = r ∧ i_Rel (k + 3) u v') v) u := by
  refine zz_el (P := fun u v => wpX_openReadings (fun r => wpY_openReadings (fun r' v' => r' = r ∧ i_Rel (k + 3) u v') v) u) ?_ I
  intro mw ml cap N T vd xf_nodeCount xf_codeDelay xf_witnessSize xf_queueCount xf_decoderOn xf_decoderDone xf_readSize xf_settledAt xf_settledSize xa_wordCodes xa_wordLengths xa_nextNode xa_wordEnd xa_wordDelays xa_witness xa_witnessWords xa_witnessCounts xa_witnessRest xa_pairSeen xa_pairHeight xa_queuePair xa_queueFrom xa_queueDepth xa_queueGroup xa_queueBit xa_text xa_ways xa_openNode xa_lastWord xa_wordsTo xa_settled xa_startNodes yf_witLen yf_pos yf_finished yf_settledN yf_opens ya_delays ya_wit ya_near ya_life ya_set ya_next ya_ways ya_msg ya_settled R
  have J : i_Rel (k + 3) (nI mw, nI ml, nI cap, nI N, xf_nodeCount, nI vd, xf_codeDelay, xf_witnessSize, xf_queueCount, nI T, xf_decoderOn, xf_decoderDone, xf_readSize, xf_settledAt, xf_settledSize, xa_wordCodes, xa_wordLengths, xa_nextNode, xa_wordEnd, xa_wordDelays, xa_witness, xa_witnessWords, xa_witnessCounts, xa_witnessRest, xa_startNodes, xa_pairSeen, xa_pairHeight, xa_queuePair, xa_queueFrom, xa_queueDepth, xa_queueGroup, xa_queueBit, xa_text, xa_ways, xa_openNode, xa_lastWord, xa_wordsTo, xa_settled) (nI mw, nI ml, nI cap, nI N, nI vd, yf_witLen, nI T, yf_pos, yf_finished, yf_settledN, yf_opens, xa_wordCodes, xa_wordLengths, ya_delays, ya_wit, xa_text, ya_near, ya_life, ya_set, ya_next, ya_ways, ya_msg, ya_settled) := zz_in R
  have hv := R.1
  have hd := R.2.2.2.1
  have hc := R.2.1
  have hok := da_cok_ok hc
  by_cases z : vd = 3
  · rw [if_pos z] at hd
    obtain ⟨nd, nc, p, f, g1, g2, g3, g4, g5, g6, g7, g8, g9, g10⟩ := R.2.2.2.2.2.2 z
    subst z
    refine br_f (by rw [hd]; exact da_10) ?_
    by_cases z2 : f = 0
    · have yl : ∀ post : Int32 → Prop, post (nI (da_cn (fun r => ∃ k, da_oc N (da_L xa_wordLengths) (da_B xa_wordCodes xa_wordLengths) (da_tx xa_text) p r k) 8)) → ∃ n22, wX_openReadings_22 post (nI mw) (nI ml) (nI cap) (nI N) xf_nodeCount (nI 3) xf_codeDelay xf_witnessSize xf_queueCount (nI T) xf_decoderOn xf_decoderDone xf_readSize xf_settledAt xf_settledSize xa_wordCodes xa_wordLengths xa_nextNode xa_wordEnd xa_wordDelays xa_witness xa_witnessWords xa_witnessCounts xa_witnessRest xa_startNodes xa_pairSeen xa_pairHeight xa_queuePair xa_queueFrom xa_queueDepth xa_queueGroup xa_queueBit xa_text xa_ways xa_openNode xa_lastWord xa_wordsTo xa_settled n22 0 0 := by
        intro post hp
        have main : ∀ f r, r ≤ 8 → 8 - r < f → wX_openReadings_22 post (nI mw) (nI ml) (nI cap) (nI N) xf_nodeCount (nI 3) xf_codeDelay xf_witnessSize xf_queueCount (nI T) xf_decoderOn xf_decoderDone xf_readSize xf_settledAt xf_settledSize xa_wordCodes xa_wordLengths xa_nextNode xa_wordEnd xa_wordDelays xa_witness xa_witnessWords xa_witnessCounts xa_witnessRest xa_startNodes xa_pairSeen xa_pairHeight xa_queuePair xa_queueFrom xa_queueDepth xa_queueGroup xa_queueBit xa_text xa_ways xa_openNode xa_lastWord xa_wordsTo xa_settled f (nI (da_cn (fun r => ∃ k, da_oc N (da_L xa_wordLengths) (da_B xa_wordCodes xa_wordLengths) (da_tx xa_text) p r k) r)) (nI r) := by
          intro f
          induction f with
          | zero => intro r _ h0; omega
          | succ f ih =>
            intro r hr hf
            refine pk_le 8 r (fun q => ?_) (fun q => ?_)
            · have : r = 8 := by omega
              subst this; exact hp
            · have cr : (nI r).toNatClampNeg = r := nI_clamp (by omega)
              have st := ih (r + 1) (by omega) (by omega)
              rw [da_cn_s] at st
              rw [cr]
              refine ⟨vp_in_nI (by omega) (by omega), ?_⟩
              rcases g10.1 r q with ⟨k, k1, k2⟩ | ⟨k1, k2⟩
              · rw [da_if_t ⟨k, k1⟩] at st
                have := g1.2.2.2.1 k r k1.1 k1.2.1
                have := g1.2.2.1
                rw [k2]
                exact br_f (nI_pos (by omega)) (nm_r (nI_1 _) (nm_r (nI_1 r) st))
              · rw [da_if_f (fun ⟨k, w⟩ => k2 k w)] at st
                rw [k1]
                exact br_t da_neg1 (nm_r (nI_1 r) st)
        exact ⟨9, main 9 0 (by omega) (by omega)⟩
      subst z2
      refine br_t g8 (yl _ ?_)
      refine br_t rfl (br_t g9 ?_)
      rw [g6]
      refine yw_settle (T := T) (t := da_tx xa_text) (fin := 0) hc (Or.inl ⟨rfl, T, rfl, Nat.le_refl _, by omega, R.2.2.1⟩) g4 g7 g9 (fun S' c ways msg settled q1 q2 q3 q4 q5 => ?_)
      rw [← g6]
      exact ⟨by rw [q1, da_cnt8 hok g3], zz_in R⟩
    · have f1 : f = 1 := by omega
      subst f1
      exact br_f (by rw [g8]; exact da_10) (br_t rfl (br_f (by rw [g9]; exact da_10) ⟨rfl, J⟩))
  · rw [if_neg z] at hd
    exact br_t hd (br_f (fun w => z ((nI_eq (b := 3) (by omega) (by omega)).mp w)) ⟨rfl, J⟩)
end
section
/-! decode and finish -/
theorem i_vc_decode {k : Nat} {u : SX} {v : SY} (I : i_Rel k u v) (hk : k + 3 ≤ 1539) (v1 : Int32) : wpX_decode (fun r u' => wpY_decode (fun r' v' => r' = r ∧ i_Rel (k + 3) u' v') v v1) u v1 := by
  refine zz_el (P := fun u v => wpX_decode (fun r u' => wpY_decode (fun r' v' => r' = r ∧ i_Rel (k + 3) u' v') v v1) u v1) ?_ I
  intro mw ml cap N T vd xf_nodeCount xf_codeDelay xf_witnessSize xf_queueCount xf_decoderOn xf_decoderDone xf_readSize xf_settledAt xf_settledSize xa_wordCodes xa_wordLengths xa_nextNode xa_wordEnd xa_wordDelays xa_witness xa_witnessWords xa_witnessCounts xa_witnessRest xa_pairSeen xa_pairHeight xa_queuePair xa_queueFrom xa_queueDepth xa_queueGroup xa_queueBit xa_text xa_ways xa_openNode xa_lastWord xa_wordsTo xa_settled xa_startNodes yf_witLen yf_pos yf_finished yf_settledN yf_opens ya_delays ya_wit ya_near ya_life ya_set ya_next ya_ways ya_msg ya_settled R
  have J : i_Rel (k + 3) (nI mw, nI ml, nI cap, nI N, xf_nodeCount, nI vd, xf_codeDelay, xf_witnessSize, xf_queueCount, nI T, xf_decoderOn, xf_decoderDone, xf_readSize, xf_settledAt, xf_settledSize, xa_wordCodes, xa_wordLengths, xa_nextNode, xa_wordEnd, xa_wordDelays, xa_witness, xa_witnessWords, xa_witnessCounts, xa_witnessRest, xa_startNodes, xa_pairSeen, xa_pairHeight, xa_queuePair, xa_queueFrom, xa_queueDepth, xa_queueGroup, xa_queueBit, xa_text, xa_ways, xa_openNode, xa_lastWord, xa_wordsTo, xa_settled) (nI mw, nI ml, nI cap, nI N, nI vd, yf_witLen, nI T, yf_pos, yf_finished, yf_settledN, yf_opens, xa_wordCodes, xa_wordLengths, ya_delays, ya_wit, xa_text, ya_near, ya_life, ya_set, ya_next, ya_ways, ya_msg, ya_settled) := zz_in R
  obtain ⟨⟨a1, a2, a3, a4, a5, a6⟩, hc, htx, hd, r1, r2, r3⟩ := R
  by_cases z : vd = 3
  · rw [if_pos z] at hd
    obtain ⟨nd, nc, p, f, g1, g2, g3, g4, g5, g6, g7, g8, g9, g10⟩ := r3 z
    subst z; subst hd; subst g5; subst g6; subst g8; subst g9
    refine br_f da_10 ?_
    by_cases z2 : f = 0
    · subst z2
      refine br_t rfl ?_
      rcases da_ix3 v1 (n := 65) (by omega) with h | ⟨h1, h2, h3, h4⟩ | ⟨n, hn, rfl⟩
      · exact br_t h (br_t rfl (br_t rfl (br_t h ⟨rfl, J⟩)))
      · have q1 : ¬ v1 ≤ 64 := fun w => h3 (Int32.lt_of_le_of_lt w (by decide))
        exact br_f h1 (br_f q1 (br_t rfl (br_t rfl (br_f h1 (br_f q1 ⟨rfl, J⟩)))))
      · have n64 : nI n ≤ 64 := nI_le (b := 64) (by omega) (by omega)
        obtain ⟨m, hrun⟩ := da_run_ex (da_go N (da_L xa_wordLengths) (da_B xa_wordCodes xa_wordLengths) (da_tx xa_text) T) p n
        refine br_f (nI_pos (by omega)) (br_t n64 ⟨n + 1, ?_⟩)
        refine xw_dec34 (p0 := p) (m := m) (t := da_tx xa_text) hc g3 g1 g2 (by omega) (by omega) htx hrun (fun on lw wt sa ss st hpT hdx => ?_) (n + 1) 0 _ _ _ _ _ _ (Nat.zero_le _) (by omega) g4 g10
        refine br_t rfl (br_t rfl (br_f (nI_pos (by omega)) (br_t n64 ⟨n + 1, ?_⟩)))
        refine yw_dec33 (p0 := p) (m := m) (T := T) (t := da_tx xa_text) hc (Or.inl ⟨rfl, T, rfl, Nat.le_refl _, by omega, htx⟩) rfl rfl (by omega) hrun (fun opens settledN ways msg settled => ⟨rfl, ?_⟩) (n + 1) 0 _ _ _ _ _ (Nat.zero_le _) (by omega) g4
        exact zz_in (vd := 3) ⟨⟨a1, a2, a3, a4, a5, a6⟩, hc, htx, rfl, r1, r2, fun _ => ⟨nd, nc, p + m, 0, g1, g2, g3, hpT, rfl, rfl, g7, rfl, rfl, hdx⟩⟩
    · have f1 : f = 1 := by omega
      subst f1
      exact br_f da_10 (br_t rfl (br_f da_10 ⟨rfl, J⟩))
  · rw [if_neg z] at hd
    exact br_t hd (br_f (fun w => z ((nI_eq (b := 3) (by omega) (by omega)).mp w)) ⟨rfl, J⟩)
theorem i_vc_finish {k : Nat} {u : SX} {v : SY} (I : i_Rel k u v) (hk : k + 3 ≤ 1539) : wpX_finish (fun r u' => wpY_finish (fun r' v' => r' = r ∧ i_Rel (k + 3) u' v') v) u := by
  refine zz_el (P := fun u v => wpX_finish (fun r u' => wpY_finish (fun r' v' => r' = r ∧ i_Rel (k + 3) u' v') v) u) ?_ I
  intro mw ml cap N T vd xf_nodeCount xf_codeDelay xf_witnessSize xf_queueCount xf_decoderOn xf_decoderDone xf_readSize xf_settledAt xf_settledSize xa_wordCodes xa_wordLengths xa_nextNode xa_wordEnd xa_wordDelays xa_witness xa_witnessWords xa_witnessCounts xa_witnessRest xa_pairSeen xa_pairHeight xa_queuePair xa_queueFrom xa_queueDepth xa_queueGroup xa_queueBit xa_text xa_ways xa_openNode xa_lastWord xa_wordsTo xa_settled xa_startNodes yf_witLen yf_pos yf_finished yf_settledN yf_opens ya_delays ya_wit ya_near ya_life ya_set ya_next ya_ways ya_msg ya_settled R
  have J : i_Rel (k + 3) (nI mw, nI ml, nI cap, nI N, xf_nodeCount, nI vd, xf_codeDelay, xf_witnessSize, xf_queueCount, nI T, xf_decoderOn, xf_decoderDone, xf_readSize, xf_settledAt, xf_settledSize, xa_wordCodes, xa_wordLengths, xa_nextNode, xa_wordEnd, xa_wordDelays, xa_witness, xa_witnessWords, xa_witnessCounts, xa_witnessRest, xa_startNodes, xa_pairSeen, xa_pairHeight, xa_queuePair, xa_queueFrom, xa_queueDepth, xa_queueGroup, xa_queueBit, xa_text, xa_ways, xa_openNode, xa_lastWord, xa_wordsTo, xa_settled) (nI mw, nI ml, nI cap, nI N, nI vd, yf_witLen, nI T, yf_pos, yf_finished, yf_settledN, yf_opens, xa_wordCodes, xa_wordLengths, ya_delays, ya_wit, xa_text, ya_near, ya_life, ya_set, ya_next, ya_ways, ya_msg, ya_settled) := zz_in R
  have R0 := R
  obtain ⟨⟨a1, a2, a3, a4, a5, a6⟩, hc, htx, hd, r1, r2, r3⟩ := R
  have hok := da_cok_ok hc
  by_cases z : vd = 3
  · rw [if_pos z] at hd
    obtain ⟨nd, nc, p, f, g1, g2, g3, g4, g5, g6, g7, g8, g9, g10⟩ := r3 z
    subst z; subst hd; subst g5; subst g6; subst g8; subst g9
    refine br_f da_10 ?_
    by_cases z2 : f = 0
    · subst z2
      refine br_t rfl (pk_le T p (fun q => ?_) (fun q => ?_))
      · have sc : da_sc 0 T (da_tx xa_text) (nI 3) yf_witLen (nI T) xa_text ya_wit := Or.inl ⟨rfl, T, rfl, Nat.le_refl _, by omega, htx⟩
        have tp : nI T ≤ nI p := nI_le q (by omega)
        rcases g10.1 0 (by omega) with ⟨k0, k1, k2⟩ | ⟨k1, k2⟩
        · obtain ⟨S', rS'⟩ := k1.2.2.2.1
          rw [Nat.sub_zero] at rS'
          rw [k2, g1.1.1 k0]
          obtain ⟨o1, o2, S, a, e1, e2, e3, e4, e5, e6, e7⟩ := g10
          subst e1
          have pf : S <+: S' := (e6 rfl).1 S' ⟨p, Nat.le_refl _, Or.inl rfl, rS'⟩
          have lS := da_rd_le hok _ _ _ rS'
          refine br_t (nI_pos' (by omega)) (xw_settleUpTo (p := p) (S := S) (S' := S') (t := da_tx xa_text) hc g2 (by omega) o2 e2 (Nat.le_refl _) e3 rS' pf e5 (fun st hst => ?_))
          refine br_t rfl (br_t rfl (br_t tp ?_))
          refine yw_read (sr := 0) (M := T) (t := da_tx xa_text) (wh := 0) hc sc (by omega) (by omega) (fun l ways msg f1 f2 f3 => ?_) (fun ways msg f1 => absurd ⟨S', rS'⟩ f1)
          have el := da_rd_uniq hok g2 _ _ _ _ (da_gr_rd _ _ f1) rS'
          subst el
          refine br_t (nI_pos' (by omega)) ⟨rfl, ?_⟩
          exact zz_in (vd := 3) ⟨⟨a1, a2, a3, a4, a5, a6⟩, hc, htx, rfl, r1, r2, fun _ => ⟨nd, nc, p, 1, g1, g2, g3, g4, rfl, rfl, by omega, rfl, rfl, o1, o2, l, p, rfl, Nat.le_refl _, rS', rfl, hst, fun w => by omega, fun _ => rfl⟩⟩
        · have nrb : ¬ da_rb N (da_L xa_wordLengths) (da_B xa_wordCodes xa_wordLengths) (da_tx xa_text) 0 p := by
            intro w
            exact k2 0 ⟨g3, (hok.2.1 0 g3).1, Nat.zero_le _, by rw [Nat.sub_zero]; exact w, fun j hj => by omega⟩
          rw [k1]
          refine br_f (by decide) (br_t rfl (br_t rfl (br_t tp ?_)))
          refine yw_read (sr := 0) (M := T) (t := da_tx xa_text) (wh := 0) hc sc (by omega) (by omega) (fun l ways msg f1 f2 f3 => absurd ⟨l, da_gr_rd _ _ f1⟩ nrb) (fun ways msg f1 => ?_)
          exact br_f (by decide) ⟨rfl, zz_in R0⟩
      · exact br_t rfl (br_t rfl (br_f (nI_ge q (by omega)) ⟨rfl, J⟩))
    · have f1 : f = 1 := by omega
      subst f1
      exact br_f da_10 (br_t rfl (br_f da_10 ⟨rfl, J⟩))
  · rw [if_neg z] at hd
    exact br_t hd (br_f (fun w => z ((nI_eq (b := 3) (by omega) (by omega)).mp w)) ⟨rfl, J⟩)
end
