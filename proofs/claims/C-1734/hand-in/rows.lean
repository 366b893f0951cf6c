section
/-! pure rows to paste: stores, nI and lN arithmetic, masks, shifts, narrowing, branches by naturals (pk_le, pk_lt, pk_eq), loops (lp1 .. lp16: the measure of the state; rp1 ..: recursion), negatives. Take what you need -/
theorem pk_us {f : Nat → Int32} {k : Nat} {x : Int32} : upd f k x k = x := if_pos rfl
theorem pk_un {f : Nat → Int32} {k j : Nat} {x : Int32} (h : j ≠ k) : upd f k x j = f j := if_neg h
theorem pk_uLs {f : Nat → Int64} {k : Nat} {x : Int64} : vp_updL f k x k = x := if_pos rfl
theorem pk_uLn {f : Nat → Int64} {k j : Nat} {x : Int64} (h : j ≠ k) : vp_updL f k x j = f j := if_neg h
theorem pk_sub {a b : Nat} (h : b ≤ a) : nI a - nI b = nI (a - b) := by
  obtain ⟨c, rfl⟩ : ∃ c, a = c + b := ⟨a - b, by omega⟩
  rw [← nI_add, Int32.add_sub_cancel, Nat.add_sub_cancel]
theorem pk_m1 (n : Nat) : nI (n + 1) + (-1) = nI n := by
  rw [← nI_1, Int32.add_assoc, show (1 : Int32) + (-1) = 0 from rfl, Int32.add_zero]
theorem pk_mul (a b : Nat) : nI a * nI b = nI (a * b) := (Int32.ofNat_mul a b).symm
theorem pk_div {a d : Nat} (ha : a < 2 ^ 31) (h0 : 0 < d) (hd : d < 2 ^ 31) : nI a / nI d = nI (a / d) := by
  apply Int32.toInt_inj.mp
  rw [lg_idiv_nonneg (by rw [nI_toInt ha]; omega) (by rw [nI_toInt hd]; omega), nI_toInt ha, nI_toInt hd, nI_toInt (Nat.lt_of_le_of_lt (Nat.div_le_self a d) ha)]
  first | rfl | exact (Int.natCast_ediv _ _).symm
theorem pk_rem {a d : Nat} (ha : a < 2 ^ 31) (h0 : 0 < d) (hd : d < 2 ^ 31) : nI a - nI a / nI d * nI d = nI (a % d) := by
  rw [pk_div ha h0 hd, pk_mul, pk_sub (Nat.div_mul_le_self a d)]
  exact congrArg nI (by have := Nat.div_add_mod' a d; omega)
theorem pk_sub_toInt {a b : Nat} (ha : a < 2 ^ 30) (hb : b < 2 ^ 30) : (nI a - nI b).toInt = (a : Int) - b := by
  rw [Int32.toInt_sub, nI_toInt (by omega), nI_toInt (by omega)]
  exact Int.bmod_eq_of_le (by omega) (by omega)
theorem pk_sneg {a b : Nat} (hb : b < 2 ^ 30) (h : a < b) : nI a - nI b < 0 := by
  rw [Int32.lt_iff_toInt_lt, pk_sub_toInt (by omega) hb, show (0 : Int32).toInt = 0 from by decide]
  omega
theorem pk_ix (x : Int32) {n : Nat} (hn : n < 2 ^ 31) : x < 0 ∨ nI n ≤ x ∨ ∃ j : Nat, j < n ∧ x = nI j := by
  by_cases h : x < 0
  · exact Or.inl h
  · obtain ⟨j, hj, rfl⟩ := nI_of h
    by_cases h2 : j < n
    · exact Or.inr (Or.inr ⟨j, h2, rfl⟩)
    · exact Or.inr (Or.inl (nI_le (by omega) hj))
theorem pk_le {x y : Int32} {A B : Prop} (a b : Nat) (f : a ≤ b → A) (g : b < a → B) (hx : x = nI a := by rfl) (hy : y = nI b := by rfl) (ha : a < 2 ^ 31 := by omega) (hb : b < 2 ^ 31 := by omega) : (x ≤ y → A) ∧ (¬ x ≤ y → B) := by
  subst hx hy
  rw [nI_leI ha hb]
  exact ⟨f, fun z => g (by omega)⟩
theorem pk_lt {x y : Int32} {A B : Prop} (a b : Nat) (f : a < b → A) (g : b ≤ a → B) (hx : x = nI a := by rfl) (hy : y = nI b := by rfl) (ha : a < 2 ^ 31 := by omega) (hb : b < 2 ^ 31 := by omega) : (x < y → A) ∧ (¬ x < y → B) := by
  subst hx hy
  rw [nI_ltI ha hb]
  exact ⟨f, fun z => g (by omega)⟩
theorem pk_eq {x y : Int32} {A B : Prop} (a b : Nat) (f : a = b → A) (g : a ≠ b → B) (hx : x = nI a := by rfl) (hy : y = nI b := by rfl) (ha : a < 2 ^ 31 := by omega) (hb : b < 2 ^ 31 := by omega) : (x = y → A) ∧ (¬ x = y → B) := by
  subst hx hy
  rw [nI_eq ha hb]
  exact ⟨f, g⟩
theorem pk_in {x : Int32} (n N : Nat) (h : n < N) (hx : x = nI n := by rfl) (hN : N < 2 ^ 31 := by omega) : vp_in x N := by
  subst hx
  exact vp_in_nI h hN
theorem pk_cl {x : Int32} (n : Nat) (hx : x = nI n := by rfl) (h : n < 2 ^ 31 := by omega) : x.toNatClampNeg = n := by
  subst hx
  exact nI_clamp h
theorem pk_tn {n : Nat} (h : n < 2 ^ 32) : (nI n).toBitVec.toNat = n := Nat.mod_eq_of_lt h
theorem pk_and (x : Int32) {m : Int32} (k : Nat) (hm : m.toBitVec.toNat = 2 ^ k - 1) : x &&& m = nI (x.toBitVec.toNat % 2 ^ k) := by
  apply Int32.toBitVec_inj.mp
  apply BitVec.eq_of_toNat_eq
  rw [Int32.toBitVec_and, BitVec.toNat_and, hm, Nat.and_two_pow_sub_one_eq_mod]
  show _ = (BitVec.ofNat 32 _).toNat
  rw [BitVec.toNat_ofNat]
  exact (Nat.mod_eq_of_lt (Nat.lt_of_le_of_lt (Nat.mod_le _ _) x.toBitVec.isLt)).symm
theorem pk_andN {n : Nat} (h : n < 2 ^ 32) {m : Int32} (k : Nat) (hm : m.toBitVec.toNat = 2 ^ k - 1) : nI n &&& m = nI (n % 2 ^ k) := by
  rw [pk_and _ k hm, pk_tn h]
theorem pk_andE (x : Int32) {m : Int32} (k : Nat) (hm : m.toBitVec.toNat = 2 ^ k - 1) : ∃ j : Nat, j < 2 ^ k ∧ x &&& m = nI j := ⟨_, Nat.mod_lt _ (Nat.two_pow_pos k), pk_and x k hm⟩
theorem pk_andIn (x : Int32) {m : Int32} (k : Nat) (hm : m.toBitVec.toNat = 2 ^ k - 1) (hk : k ≤ 30) : vp_in (x &&& m) (2 ^ k) := by
  obtain ⟨j, hj, e⟩ := pk_andE x k hm
  rw [e]
  exact vp_in_nI hj (Nat.lt_of_le_of_lt (Nat.pow_le_pow_right (by decide) hk) (by decide))
theorem pk_shl (a s : Int32) (k : Nat) (hs : (s.toBitVec.smod 32).toNat = k) : (a <<< s).toBitVec.toNat = a.toBitVec.toNat * 2 ^ k % 2 ^ 32 := by
  show (a.toBitVec <<< (s.toBitVec.smod 32).toNat).toNat = _
  rw [hs, BitVec.toNat_shiftLeft, Nat.shiftLeft_eq]
theorem pk_shlN {n : Nat} (s : Int32) (k : Nat) (hs : (s.toBitVec.smod 32).toNat = k) (h : n * 2 ^ k < 2 ^ 32) : nI n <<< s = nI (n * 2 ^ k) := by
  apply Int32.toBitVec_inj.mp
  apply BitVec.eq_of_toNat_eq
  have hn : n < 2 ^ 32 := Nat.lt_of_le_of_lt (Nat.le_mul_of_pos_right n (Nat.two_pow_pos k)) h
  rw [pk_shl _ _ k hs, pk_tn hn, pk_tn h, Nat.mod_eq_of_lt h]
theorem pk_shr (a s : Int32) (k : Nat) (hs : (s.toBitVec.smod 32).toNat = k) : (a >>> s).toInt = a.toInt >>> k := by
  show (a.toBitVec.sshiftRight (s.toBitVec.smod 32).toNat).toInt = _
  rw [hs, BitVec.toInt_sshiftRight]
  rfl
theorem pk_shrN {n : Nat} (h : n < 2 ^ 31) (s : Int32) (k : Nat) (hs : (s.toBitVec.smod 32).toNat = k) : nI n >>> s = nI (n / 2 ^ k) := by
  apply Int32.toInt_inj.mp
  have h2 : n / 2 ^ k ≤ n := Nat.div_le_self _ _
  rw [pk_shr _ _ k hs, nI_toInt h, nI_toInt (by omega), Int.shiftRight_eq_div_pow]
  rfl
theorem pk_ushr (x s : Int32) (k : Nat) (hs : ((s.toUInt32 &&& Int32.toUInt32 31).toBitVec % 32).toNat = k) : (x.toUInt32 >>> (s.toUInt32 &&& Int32.toUInt32 31)).toInt32.toBitVec.toNat = x.toBitVec.toNat / 2 ^ k := by
  have e : (x.toUInt32 >>> (s.toUInt32 &&& Int32.toUInt32 31)).toInt32.toBitVec = x.toBitVec >>> k := by
    rw [← hs]
    exact UInt32.toBitVec_shiftRight _ _
  rw [e, BitVec.toNat_ushiftRight, Nat.shiftRight_eq_div_pow]
theorem pk_ushrN {n : Nat} (hn : n < 2 ^ 32) (s : Int32) (k : Nat) (hs : ((s.toUInt32 &&& Int32.toUInt32 31).toBitVec % 32).toNat = k) : ((nI n).toUInt32 >>> (s.toUInt32 &&& Int32.toUInt32 31)).toInt32 = nI (n / 2 ^ k) := by
  apply Int32.toBitVec_inj.mp
  apply BitVec.eq_of_toNat_eq
  rw [pk_ushr _ s k hs, pk_tn hn, pk_tn (Nat.lt_of_le_of_lt (Nat.div_le_self _ _) hn)]
theorem pk_nb (z : Int32) : narrow .byte (.int z.toInt8.toInt32) = .int z.toInt8.toInt32 := congrArg Value.int (by simp)
theorem pk_ns (z : Int32) : narrow .short (.int z.toInt16.toInt32) = .int z.toInt16.toInt32 := congrArg Value.int (by simp)
theorem pk_fb (r : Int32) : fits .byte (.int r.toInt8.toInt32) = true := by
  have ⟨a, b⟩ := lg_i2b_range r
  have h1 : (-128 : Int32).toInt = -128 := by decide
  have h2 : (127 : Int32).toInt = 127 := by decide
  simp only [fits, Bool.and_eq_true, decide_eq_true_eq, Int32.le_iff_toInt_le, h1, h2]
  omega
theorem pk_fs (r : Int32) : fits .short (.int r.toInt16.toInt32) = true := by
  have ⟨a, b⟩ := lg_i2s_range r
  have h1 : (-32768 : Int32).toInt = -32768 := by decide
  have h2 : (32767 : Int32).toInt = 32767 := by decide
  simp only [fits, Bool.and_eq_true, decide_eq_true_eq, Int32.le_iff_toInt_le, h1, h2]
  omega
theorem pk_charN {q : Nat} (hq : q < 65536) : narrow .char (.int (nI q)) = .int (nI q) ∧ fits .char (.int (nI q)) = true := by
  constructor
  · have e : (nI q).toUInt32.toUInt16.toUInt32.toInt32 = nI q := by
      apply Int32.toBitVec_inj.mp
      apply BitVec.eq_of_toNat_eq
      show (nI q).toUInt32.toUInt16.toUInt32.toNat = q % 2 ^ 32
      rw [UInt16.toNat_toUInt32, UInt32.toNat_toUInt16, show (nI q).toUInt32.toNat = q % 2 ^ 32 from rfl]
      omega
    exact congrArg Value.int e
  · have a : (0 : Int32) ≤ nI q := nI_pos' (by omega)
    have b : nI q ≤ 65535 := nI_le (b := 65535) (by omega) (by decide)
    show (decide ((0 : Int32) ≤ nI q) && decide (nI q ≤ 65535)) = true
    rw [decide_eq_true a, decide_eq_true b]
    rfl
theorem pk_char (x : Int32) : (x.toUInt32 % 65536).toInt32 = nI (x.toBitVec.toNat % 65536) := by
  apply Int32.toBitVec_inj.mp
  apply BitVec.eq_of_toNat_eq
  rw [pk_tn (by omega)]
  show (x.toUInt32 % 65536).toNat = _
  rw [UInt32.toNat_mod]
  rfl
theorem pk_nc (x : Int32) : narrow .char (.int (x.toUInt32 % 65536).toInt32) = .int (x.toUInt32 % 65536).toInt32 := by
  rw [pk_char]
  exact (pk_charN (Nat.mod_lt _ (by decide))).1
theorem pk_fc (x : Int32) : fits .char (.int (x.toUInt32 % 65536).toInt32) = true := by
  rw [pk_char]
  exact (pk_charN (Nat.mod_lt _ (by decide))).2
theorem pk_vb (z : Int32) : vp_nar .byte z.toInt8.toInt32 = z.toInt8.toInt32 := by rw [vp_nar_byte]; simp
theorem pk_vs (z : Int32) : vp_nar .short z.toInt16.toInt32 = z.toInt16.toInt32 := by rw [vp_nar_short]; simp
theorem pk_vc (z : Int32) : vp_nar .char (z.toUInt32 % 65536).toInt32 = (z.toUInt32 % 65536).toInt32 := Value.int.inj (pk_nc z)
theorem pk_lT {n : Nat} (h : n < 2 ^ 63) : (lN n).toInt = (n : Int) := lg_ofNat_toInt h
theorem pk_lLT {a b : Nat} (ha : a < 2 ^ 63) (hb : b < 2 ^ 63) : lN a < lN b ↔ a < b := by
  rw [Int64.lt_iff_toInt_lt, pk_lT ha, pk_lT hb]; omega
theorem pk_lLE {a b : Nat} (ha : a < 2 ^ 63) (hb : b < 2 ^ 63) : lN a ≤ lN b ↔ a ≤ b := by
  rw [Int64.le_iff_toInt_le, pk_lT ha, pk_lT hb]; omega
theorem pk_lEQ {a b : Nat} (ha : a < 2 ^ 63) (hb : b < 2 ^ 63) : lN a = lN b ↔ a = b := by
  rw [← Int64.toInt_inj, pk_lT ha, pk_lT hb]; omega
theorem pk_lOf {x : Int64} (h : ¬ x < 0) : ∃ k : Nat, k < 2 ^ 63 ∧ x = lN k := by
  rw [Int64.lt_iff_toInt_lt] at h
  have h0 : (0 : Int64).toInt = 0 := by decide
  have hx := Int64.toInt_lt x
  refine ⟨x.toInt.toNat, by omega, Int64.toInt_inj.mp ?_⟩
  rw [pk_lT (by omega)]
  omega
theorem pk_lDiv {a b : Nat} (ha : a < 2 ^ 63) (h0 : 0 < b) (hb : b < 2 ^ 63) : lN a / lN b = lN (a / b) := by
  apply Int64.toInt_inj.mp
  rw [lg_ldiv_nonneg (by rw [pk_lT ha]; omega) (by rw [pk_lT hb]; omega), pk_lT ha, pk_lT hb, pk_lT (Nat.lt_of_le_of_lt (Nat.div_le_self a b) ha)]
  rfl
theorem pk_lRem {a b : Nat} (ha : a < 2 ^ 63) (h0 : 0 < b) (hb : b < 2 ^ 63) : lN a - lN a / lN b * lN b = lN (a % b) := by
  rw [pk_lDiv ha h0 hb, lN_mul, lN_sub (Nat.div_mul_le_self a b)]
  exact congrArg lN (by have := Nat.div_add_mod' a b; omega)
theorem pk_loop {σ : Type} (W : Nat → Nat → σ → Prop) (I : Nat → σ → Prop) (e i0 : Nat) (s : σ) (hi : i0 ≤ e) (h0 : I i0 s) (hx : ∀ n s, I e s → W (n + 1) e s)
    (hs : ∀ n i s, i < e → I i s → (∀ s', I (i + 1) s' → W n (i + 1) s') → W (n + 1) i s) : ∃ n, W n i0 s :=
  ⟨e + 1, loop_i W I e hx hs (e + 1) i0 s hi (by omega) h0⟩
theorem pk_loopD {σ : Type} (W : Nat → Nat → σ → Prop) (I : Nat → σ → Prop) (hx : ∀ n s, I 0 s → W (n + 1) 0 s)
    (hs : ∀ n i s, I (i + 1) s → (∀ s', I i s' → W n i s') → W (n + 1) (i + 1) s) : ∀ (e : Nat) (s : σ), I e s → W (e + 1) e s := by
  intro e
  induction e with
  | zero => exact fun s h => hx 0 s h
  | succ e ih => exact fun s h => hs (e + 1) e s h (fun s' h' => ih s' h')
theorem lp1 {A1 : Type} (W : Nat → A1 → Prop) (I : A1 → Prop) (μ : A1 → Nat) (hs : ∀ (n : Nat) (a1 : A1), I a1 → (∀ (b1 : A1), I b1 → μ b1 < μ a1 → W n b1) → W (n + 1) a1) (a1 : A1) (h : I a1) : ∃ n, W n a1 :=
  loop_m (σ := A1) (fun n s => W n s) (fun s => I s) (fun s => μ s) (fun n s hI hk => hs n s hI (fun b1 h9 hm => hk b1 h9 hm)) a1 h
theorem lp2 {A1 A2 : Type} (W : Nat → A1 → A2 → Prop) (I : A1 → A2 → Prop) (μ : A1 → A2 → Nat) (hs : ∀ (n : Nat) (a1 : A1) (a2 : A2), I a1 a2 → (∀ (b1 : A1) (b2 : A2), I b1 b2 → μ b1 b2 < μ a1 a2 → W n b1 b2) → W (n + 1) a1 a2) (a1 : A1) (a2 : A2) (h : I a1 a2) : ∃ n, W n a1 a2 :=
  loop_m (σ := A1 × A2) (fun n s => W n s.1 s.2) (fun s => I s.1 s.2) (fun s => μ s.1 s.2) (fun n s hI hk => hs n s.1 s.2 hI (fun b1 b2 h9 hm => hk (b1, b2) h9 hm)) (a1, a2) h
theorem lp3 {A1 A2 A3 : Type} (W : Nat → A1 → A2 → A3 → Prop) (I : A1 → A2 → A3 → Prop) (μ : A1 → A2 → A3 → Nat) (hs : ∀ (n : Nat) (a1 : A1) (a2 : A2) (a3 : A3), I a1 a2 a3 → (∀ (b1 : A1) (b2 : A2) (b3 : A3), I b1 b2 b3 → μ b1 b2 b3 < μ a1 a2 a3 → W n b1 b2 b3) → W (n + 1) a1 a2 a3) (a1 : A1) (a2 : A2) (a3 : A3) (h : I a1 a2 a3) : ∃ n, W n a1 a2 a3 :=
  loop_m (σ := A1 × A2 × A3) (fun n s => W n s.1 s.2.1 s.2.2) (fun s => I s.1 s.2.1 s.2.2) (fun s => μ s.1 s.2.1 s.2.2) (fun n s hI hk => hs n s.1 s.2.1 s.2.2 hI (fun b1 b2 b3 h9 hm => hk (b1, b2, b3) h9 hm)) (a1, a2, a3) h
theorem lp4 {A1 A2 A3 A4 : Type} (W : Nat → A1 → A2 → A3 → A4 → Prop) (I : A1 → A2 → A3 → A4 → Prop) (μ : A1 → A2 → A3 → A4 → Nat) (hs : ∀ (n : Nat) (a1 : A1) (a2 : A2) (a3 : A3) (a4 : A4), I a1 a2 a3 a4 → (∀ (b1 : A1) (b2 : A2) (b3 : A3) (b4 : A4), I b1 b2 b3 b4 → μ b1 b2 b3 b4 < μ a1 a2 a3 a4 → W n b1 b2 b3 b4) → W (n + 1) a1 a2 a3 a4) (a1 : A1) (a2 : A2) (a3 : A3) (a4 : A4) (h : I a1 a2 a3 a4) : ∃ n, W n a1 a2 a3 a4 :=
  loop_m (σ := A1 × A2 × A3 × A4) (fun n s => W n s.1 s.2.1 s.2.2.1 s.2.2.2) (fun s => I s.1 s.2.1 s.2.2.1 s.2.2.2) (fun s => μ s.1 s.2.1 s.2.2.1 s.2.2.2) (fun n s hI hk => hs n s.1 s.2.1 s.2.2.1 s.2.2.2 hI (fun b1 b2 b3 b4 h9 hm => hk (b1, b2, b3, b4) h9 hm)) (a1, a2, a3, a4) h
theorem lp5 {A1 A2 A3 A4 A5 : Type} (W : Nat → A1 → A2 → A3 → A4 → A5 → Prop) (I : A1 → A2 → A3 → A4 → A5 → Prop) (μ : A1 → A2 → A3 → A4 → A5 → Nat) (hs : ∀ (n : Nat) (a1 : A1) (a2 : A2) (a3 : A3) (a4 : A4) (a5 : A5), I a1 a2 a3 a4 a5 → (∀ (b1 : A1) (b2 : A2) (b3 : A3) (b4 : A4) (b5 : A5), I b1 b2 b3 b4 b5 → μ b1 b2 b3 b4 b5 < μ a1 a2 a3 a4 a5 → W n b1 b2 b3 b4 b5) → W (n + 1) a1 a2 a3 a4 a5) (a1 : A1) (a2 : A2) (a3 : A3) (a4 : A4) (a5 : A5) (h : I a1 a2 a3 a4 a5) : ∃ n, W n a1 a2 a3 a4 a5 :=
  loop_m (σ := A1 × A2 × A3 × A4 × A5) (fun n s => W n s.1 s.2.1 s.2.2.1 s.2.2.2.1 s.2.2.2.2) (fun s => I s.1 s.2.1 s.2.2.1 s.2.2.2.1 s.2.2.2.2) (fun s => μ s.1 s.2.1 s.2.2.1 s.2.2.2.1 s.2.2.2.2) (fun n s hI hk => hs n s.1 s.2.1 s.2.2.1 s.2.2.2.1 s.2.2.2.2 hI (fun b1 b2 b3 b4 b5 h9 hm => hk (b1, b2, b3, b4, b5) h9 hm)) (a1, a2, a3, a4, a5) h
theorem lp6 {A1 A2 A3 A4 A5 A6 : Type} (W : Nat → A1 → A2 → A3 → A4 → A5 → A6 → Prop) (I : A1 → A2 → A3 → A4 → A5 → A6 → Prop) (μ : A1 → A2 → A3 → A4 → A5 → A6 → Nat) (hs : ∀ (n : Nat) (a1 : A1) (a2 : A2) (a3 : A3) (a4 : A4) (a5 : A5) (a6 : A6), I a1 a2 a3 a4 a5 a6 → (∀ (b1 : A1) (b2 : A2) (b3 : A3) (b4 : A4) (b5 : A5) (b6 : A6), I b1 b2 b3 b4 b5 b6 → μ b1 b2 b3 b4 b5 b6 < μ a1 a2 a3 a4 a5 a6 → W n b1 b2 b3 b4 b5 b6) → W (n + 1) a1 a2 a3 a4 a5 a6) (a1 : A1) (a2 : A2) (a3 : A3) (a4 : A4) (a5 : A5) (a6 : A6) (h : I a1 a2 a3 a4 a5 a6) : ∃ n, W n a1 a2 a3 a4 a5 a6 :=
  loop_m (σ := A1 × A2 × A3 × A4 × A5 × A6) (fun n s => W n s.1 s.2.1 s.2.2.1 s.2.2.2.1 s.2.2.2.2.1 s.2.2.2.2.2) (fun s => I s.1 s.2.1 s.2.2.1 s.2.2.2.1 s.2.2.2.2.1 s.2.2.2.2.2) (fun s => μ s.1 s.2.1 s.2.2.1 s.2.2.2.1 s.2.2.2.2.1 s.2.2.2.2.2) (fun n s hI hk => hs n s.1 s.2.1 s.2.2.1 s.2.2.2.1 s.2.2.2.2.1 s.2.2.2.2.2 hI (fun b1 b2 b3 b4 b5 b6 h9 hm => hk (b1, b2, b3, b4, b5, b6) h9 hm)) (a1, a2, a3, a4, a5, a6) h
theorem lp7 {A1 A2 A3 A4 A5 A6 A7 : Type} (W : Nat → A1 → A2 → A3 → A4 → A5 → A6 → A7 → Prop) (I : A1 → A2 → A3 → A4 → A5 → A6 → A7 → Prop) (μ : A1 → A2 → A3 → A4 → A5 → A6 → A7 → Nat) (hs : ∀ (n : Nat) (a1 : A1) (a2 : A2) (a3 : A3) (a4 : A4) (a5 : A5) (a6 : A6) (a7 : A7), I a1 a2 a3 a4 a5 a6 a7 → (∀ (b1 : A1) (b2 : A2) (b3 : A3) (b4 : A4) (b5 : A5) (b6 : A6) (b7 : A7), I b1 b2 b3 b4 b5 b6 b7 → μ b1 b2 b3 b4 b5 b6 b7 < μ a1 a2 a3 a4 a5 a6 a7 → W n b1 b2 b3 b4 b5 b6 b7) → W (n + 1) a1 a2 a3 a4 a5 a6 a7) (a1 : A1) (a2 : A2) (a3 : A3) (a4 : A4) (a5 : A5) (a6 : A6) (a7 : A7) (h : I a1 a2 a3 a4 a5 a6 a7) : ∃ n, W n a1 a2 a3 a4 a5 a6 a7 :=
  loop_m (σ := A1 × A2 × A3 × A4 × A5 × A6 × A7) (fun n s => W n s.1 s.2.1 s.2.2.1 s.2.2.2.1 s.2.2.2.2.1 s.2.2.2.2.2.1 s.2.2.2.2.2.2) (fun s => I s.1 s.2.1 s.2.2.1 s.2.2.2.1 s.2.2.2.2.1 s.2.2.2.2.2.1 s.2.2.2.2.2.2) (fun s => μ s.1 s.2.1 s.2.2.1 s.2.2.2.1 s.2.2.2.2.1 s.2.2.2.2.2.1 s.2.2.2.2.2.2) (fun n s hI hk => hs n s.1 s.2.1 s.2.2.1 s.2.2.2.1 s.2.2.2.2.1 s.2.2.2.2.2.1 s.2.2.2.2.2.2 hI (fun b1 b2 b3 b4 b5 b6 b7 h9 hm => hk (b1, b2, b3, b4, b5, b6, b7) h9 hm)) (a1, a2, a3, a4, a5, a6, a7) h
theorem lp8 {A1 A2 A3 A4 A5 A6 A7 A8 : Type} (W : Nat → A1 → A2 → A3 → A4 → A5 → A6 → A7 → A8 → Prop) (I : A1 → A2 → A3 → A4 → A5 → A6 → A7 → A8 → Prop) (μ : A1 → A2 → A3 → A4 → A5 → A6 → A7 → A8 → Nat) (hs : ∀ (n : Nat) (a1 : A1) (a2 : A2) (a3 : A3) (a4 : A4) (a5 : A5) (a6 : A6) (a7 : A7) (a8 : A8), I a1 a2 a3 a4 a5 a6 a7 a8 → (∀ (b1 : A1) (b2 : A2) (b3 : A3) (b4 : A4) (b5 : A5) (b6 : A6) (b7 : A7) (b8 : A8), I b1 b2 b3 b4 b5 b6 b7 b8 → μ b1 b2 b3 b4 b5 b6 b7 b8 < μ a1 a2 a3 a4 a5 a6 a7 a8 → W n b1 b2 b3 b4 b5 b6 b7 b8) → W (n + 1) a1 a2 a3 a4 a5 a6 a7 a8) (a1 : A1) (a2 : A2) (a3 : A3) (a4 : A4) (a5 : A5) (a6 : A6) (a7 : A7) (a8 : A8) (h : I a1 a2 a3 a4 a5 a6 a7 a8) : ∃ n, W n a1 a2 a3 a4 a5 a6 a7 a8 :=
  loop_m (σ := A1 × A2 × A3 × A4 × A5 × A6 × A7 × A8) (fun n s => W n s.1 s.2.1 s.2.2.1 s.2.2.2.1 s.2.2.2.2.1 s.2.2.2.2.2.1 s.2.2.2.2.2.2.1 s.2.2.2.2.2.2.2) (fun s => I s.1 s.2.1 s.2.2.1 s.2.2.2.1 s.2.2.2.2.1 s.2.2.2.2.2.1 s.2.2.2.2.2.2.1 s.2.2.2.2.2.2.2) (fun s => μ s.1 s.2.1 s.2.2.1 s.2.2.2.1 s.2.2.2.2.1 s.2.2.2.2.2.1 s.2.2.2.2.2.2.1 s.2.2.2.2.2.2.2) (fun n s hI hk => hs n s.1 s.2.1 s.2.2.1 s.2.2.2.1 s.2.2.2.2.1 s.2.2.2.2.2.1 s.2.2.2.2.2.2.1 s.2.2.2.2.2.2.2 hI (fun b1 b2 b3 b4 b5 b6 b7 b8 h9 hm => hk (b1, b2, b3, b4, b5, b6, b7, b8) h9 hm)) (a1, a2, a3, a4, a5, a6, a7, a8) h
theorem lp9 {A1 A2 A3 A4 A5 A6 A7 A8 A9 : Type} (W : Nat → A1 → A2 → A3 → A4 → A5 → A6 → A7 → A8 → A9 → Prop) (I : A1 → A2 → A3 → A4 → A5 → A6 → A7 → A8 → A9 → Prop) (μ : A1 → A2 → A3 → A4 → A5 → A6 → A7 → A8 → A9 → Nat) (hs : ∀ (n : Nat) (a1 : A1) (a2 : A2) (a3 : A3) (a4 : A4) (a5 : A5) (a6 : A6) (a7 : A7) (a8 : A8) (a9 : A9), I a1 a2 a3 a4 a5 a6 a7 a8 a9 → (∀ (b1 : A1) (b2 : A2) (b3 : A3) (b4 : A4) (b5 : A5) (b6 : A6) (b7 : A7) (b8 : A8) (b9 : A9), I b1 b2 b3 b4 b5 b6 b7 b8 b9 → μ b1 b2 b3 b4 b5 b6 b7 b8 b9 < μ a1 a2 a3 a4 a5 a6 a7 a8 a9 → W n b1 b2 b3 b4 b5 b6 b7 b8 b9) → W (n + 1) a1 a2 a3 a4 a5 a6 a7 a8 a9) (a1 : A1) (a2 : A2) (a3 : A3) (a4 : A4) (a5 : A5) (a6 : A6) (a7 : A7) (a8 : A8) (a9 : A9) (h : I a1 a2 a3 a4 a5 a6 a7 a8 a9) : ∃ n, W n a1 a2 a3 a4 a5 a6 a7 a8 a9 :=
  loop_m (σ := A1 × A2 × A3 × A4 × A5 × A6 × A7 × A8 × A9) (fun n s => W n s.1 s.2.1 s.2.2.1 s.2.2.2.1 s.2.2.2.2.1 s.2.2.2.2.2.1 s.2.2.2.2.2.2.1 s.2.2.2.2.2.2.2.1 s.2.2.2.2.2.2.2.2) (fun s => I s.1 s.2.1 s.2.2.1 s.2.2.2.1 s.2.2.2.2.1 s.2.2.2.2.2.1 s.2.2.2.2.2.2.1 s.2.2.2.2.2.2.2.1 s.2.2.2.2.2.2.2.2) (fun s => μ s.1 s.2.1 s.2.2.1 s.2.2.2.1 s.2.2.2.2.1 s.2.2.2.2.2.1 s.2.2.2.2.2.2.1 s.2.2.2.2.2.2.2.1 s.2.2.2.2.2.2.2.2) (fun n s hI hk => hs n s.1 s.2.1 s.2.2.1 s.2.2.2.1 s.2.2.2.2.1 s.2.2.2.2.2.1 s.2.2.2.2.2.2.1 s.2.2.2.2.2.2.2.1 s.2.2.2.2.2.2.2.2 hI (fun b1 b2 b3 b4 b5 b6 b7 b8 b9 h9 hm => hk (b1, b2, b3, b4, b5, b6, b7, b8, b9) h9 hm)) (a1, a2, a3, a4, a5, a6, a7, a8, a9) h
theorem lp10 {A1 A2 A3 A4 A5 A6 A7 A8 A9 A10 : Type} (W : Nat → A1 → A2 → A3 → A4 → A5 → A6 → A7 → A8 → A9 → A10 → Prop) (I : A1 → A2 → A3 → A4 → A5 → A6 → A7 → A8 → A9 → A10 → Prop) (μ : A1 → A2 → A3 → A4 → A5 → A6 → A7 → A8 → A9 → A10 → Nat) (hs : ∀ (n : Nat) (a1 : A1) (a2 : A2) (a3 : A3) (a4 : A4) (a5 : A5) (a6 : A6) (a7 : A7) (a8 : A8) (a9 : A9) (a10 : A10), I a1 a2 a3 a4 a5 a6 a7 a8 a9 a10 → (∀ (b1 : A1) (b2 : A2) (b3 : A3) (b4 : A4) (b5 : A5) (b6 : A6) (b7 : A7) (b8 : A8) (b9 : A9) (b10 : A10), I b1 b2 b3 b4 b5 b6 b7 b8 b9 b10 → μ b1 b2 b3 b4 b5 b6 b7 b8 b9 b10 < μ a1 a2 a3 a4 a5 a6 a7 a8 a9 a10 → W n b1 b2 b3 b4 b5 b6 b7 b8 b9 b10) → W (n + 1) a1 a2 a3 a4 a5 a6 a7 a8 a9 a10) (a1 : A1) (a2 : A2) (a3 : A3) (a4 : A4) (a5 : A5) (a6 : A6) (a7 : A7) (a8 : A8) (a9 : A9) (a10 : A10) (h : I a1 a2 a3 a4 a5 a6 a7 a8 a9 a10) : ∃ n, W n a1 a2 a3 a4 a5 a6 a7 a8 a9 a10 :=
  loop_m (σ := A1 × A2 × A3 × A4 × A5 × A6 × A7 × A8 × A9 × A10) (fun n s => W n s.1 s.2.1 s.2.2.1 s.2.2.2.1 s.2.2.2.2.1 s.2.2.2.2.2.1 s.2.2.2.2.2.2.1 s.2.2.2.2.2.2.2.1 s.2.2.2.2.2.2.2.2.1 s.2.2.2.2.2.2.2.2.2) (fun s => I s.1 s.2.1 s.2.2.1 s.2.2.2.1 s.2.2.2.2.1 s.2.2.2.2.2.1 s.2.2.2.2.2.2.1 s.2.2.2.2.2.2.2.1 s.2.2.2.2.2.2.2.2.1 s.2.2.2.2.2.2.2.2.2) (fun s => μ s.1 s.2.1 s.2.2.1 s.2.2.2.1 s.2.2.2.2.1 s.2.2.2.2.2.1 s.2.2.2.2.2.2.1 s.2.2.2.2.2.2.2.1 s.2.2.2.2.2.2.2.2.1 s.2.2.2.2.2.2.2.2.2) (fun n s hI hk => hs n s.1 s.2.1 s.2.2.1 s.2.2.2.1 s.2.2.2.2.1 s.2.2.2.2.2.1 s.2.2.2.2.2.2.1 s.2.2.2.2.2.2.2.1 s.2.2.2.2.2.2.2.2.1 s.2.2.2.2.2.2.2.2.2 hI (fun b1 b2 b3 b4 b5 b6 b7 b8 b9 b10 h9 hm => hk (b1, b2, b3, b4, b5, b6, b7, b8, b9, b10) h9 hm)) (a1, a2, a3, a4, a5, a6, a7, a8, a9, a10) h
theorem lp11 {A1 A2 A3 A4 A5 A6 A7 A8 A9 A10 A11 : Type} (W : Nat → A1 → A2 → A3 → A4 → A5 → A6 → A7 → A8 → A9 → A10 → A11 → Prop) (I : A1 → A2 → A3 → A4 → A5 → A6 → A7 → A8 → A9 → A10 → A11 → Prop) (μ : A1 → A2 → A3 → A4 → A5 → A6 → A7 → A8 → A9 → A10 → A11 → Nat) (hs : ∀ (n : Nat) (a1 : A1) (a2 : A2) (a3 : A3) (a4 : A4) (a5 : A5) (a6 : A6) (a7 : A7) (a8 : A8) (a9 : A9) (a10 : A10) (a11 : A11), I a1 a2 a3 a4 a5 a6 a7 a8 a9 a10 a11 → (∀ (b1 : A1) (b2 : A2) (b3 : A3) (b4 : A4) (b5 : A5) (b6 : A6) (b7 : A7) (b8 : A8) (b9 : A9) (b10 : A10) (b11 : A11), I b1 b2 b3 b4 b5 b6 b7 b8 b9 b10 b11 → μ b1 b2 b3 b4 b5 b6 b7 b8 b9 b10 b11 < μ a1 a2 a3 a4 a5 a6 a7 a8 a9 a10 a11 → W n b1 b2 b3 b4 b5 b6 b7 b8 b9 b10 b11) → W (n + 1) a1 a2 a3 a4 a5 a6 a7 a8 a9 a10 a11) (a1 : A1) (a2 : A2) (a3 : A3) (a4 : A4) (a5 : A5) (a6 : A6) (a7 : A7) (a8 : A8) (a9 : A9) (a10 : A10) (a11 : A11) (h : I a1 a2 a3 a4 a5 a6 a7 a8 a9 a10 a11) : ∃ n, W n a1 a2 a3 a4 a5 a6 a7 a8 a9 a10 a11 :=
  loop_m (σ := A1 × A2 × A3 × A4 × A5 × A6 × A7 × A8 × A9 × A10 × A11) (fun n s => W n s.1 s.2.1 s.2.2.1 s.2.2.2.1 s.2.2.2.2.1 s.2.2.2.2.2.1 s.2.2.2.2.2.2.1 s.2.2.2.2.2.2.2.1 s.2.2.2.2.2.2.2.2.1 s.2.2.2.2.2.2.2.2.2.1 s.2.2.2.2.2.2.2.2.2.2) (fun s => I s.1 s.2.1 s.2.2.1 s.2.2.2.1 s.2.2.2.2.1 s.2.2.2.2.2.1 s.2.2.2.2.2.2.1 s.2.2.2.2.2.2.2.1 s.2.2.2.2.2.2.2.2.1 s.2.2.2.2.2.2.2.2.2.1 s.2.2.2.2.2.2.2.2.2.2) (fun s => μ s.1 s.2.1 s.2.2.1 s.2.2.2.1 s.2.2.2.2.1 s.2.2.2.2.2.1 s.2.2.2.2.2.2.1 s.2.2.2.2.2.2.2.1 s.2.2.2.2.2.2.2.2.1 s.2.2.2.2.2.2.2.2.2.1 s.2.2.2.2.2.2.2.2.2.2) (fun n s hI hk => hs n s.1 s.2.1 s.2.2.1 s.2.2.2.1 s.2.2.2.2.1 s.2.2.2.2.2.1 s.2.2.2.2.2.2.1 s.2.2.2.2.2.2.2.1 s.2.2.2.2.2.2.2.2.1 s.2.2.2.2.2.2.2.2.2.1 s.2.2.2.2.2.2.2.2.2.2 hI (fun b1 b2 b3 b4 b5 b6 b7 b8 b9 b10 b11 h9 hm => hk (b1, b2, b3, b4, b5, b6, b7, b8, b9, b10, b11) h9 hm)) (a1, a2, a3, a4, a5, a6, a7, a8, a9, a10, a11) h
theorem lp12 {A1 A2 A3 A4 A5 A6 A7 A8 A9 A10 A11 A12 : Type} (W : Nat → A1 → A2 → A3 → A4 → A5 → A6 → A7 → A8 → A9 → A10 → A11 → A12 → Prop) (I : A1 → A2 → A3 → A4 → A5 → A6 → A7 → A8 → A9 → A10 → A11 → A12 → Prop) (μ : A1 → A2 → A3 → A4 → A5 → A6 → A7 → A8 → A9 → A10 → A11 → A12 → Nat) (hs : ∀ (n : Nat) (a1 : A1) (a2 : A2) (a3 : A3) (a4 : A4) (a5 : A5) (a6 : A6) (a7 : A7) (a8 : A8) (a9 : A9) (a10 : A10) (a11 : A11) (a12 : A12), I a1 a2 a3 a4 a5 a6 a7 a8 a9 a10 a11 a12 → (∀ (b1 : A1) (b2 : A2) (b3 : A3) (b4 : A4) (b5 : A5) (b6 : A6) (b7 : A7) (b8 : A8) (b9 : A9) (b10 : A10) (b11 : A11) (b12 : A12), I b1 b2 b3 b4 b5 b6 b7 b8 b9 b10 b11 b12 → μ b1 b2 b3 b4 b5 b6 b7 b8 b9 b10 b11 b12 < μ a1 a2 a3 a4 a5 a6 a7 a8 a9 a10 a11 a12 → W n b1 b2 b3 b4 b5 b6 b7 b8 b9 b10 b11 b12) → W (n + 1) a1 a2 a3 a4 a5 a6 a7 a8 a9 a10 a11 a12) (a1 : A1) (a2 : A2) (a3 : A3) (a4 : A4) (a5 : A5) (a6 : A6) (a7 : A7) (a8 : A8) (a9 : A9) (a10 : A10) (a11 : A11) (a12 : A12) (h : I a1 a2 a3 a4 a5 a6 a7 a8 a9 a10 a11 a12) : ∃ n, W n a1 a2 a3 a4 a5 a6 a7 a8 a9 a10 a11 a12 :=
  loop_m (σ := A1 × A2 × A3 × A4 × A5 × A6 × A7 × A8 × A9 × A10 × A11 × A12) (fun n s => W n s.1 s.2.1 s.2.2.1 s.2.2.2.1 s.2.2.2.2.1 s.2.2.2.2.2.1 s.2.2.2.2.2.2.1 s.2.2.2.2.2.2.2.1 s.2.2.2.2.2.2.2.2.1 s.2.2.2.2.2.2.2.2.2.1 s.2.2.2.2.2.2.2.2.2.2.1 s.2.2.2.2.2.2.2.2.2.2.2) (fun s => I s.1 s.2.1 s.2.2.1 s.2.2.2.1 s.2.2.2.2.1 s.2.2.2.2.2.1 s.2.2.2.2.2.2.1 s.2.2.2.2.2.2.2.1 s.2.2.2.2.2.2.2.2.1 s.2.2.2.2.2.2.2.2.2.1 s.2.2.2.2.2.2.2.2.2.2.1 s.2.2.2.2.2.2.2.2.2.2.2) (fun s => μ s.1 s.2.1 s.2.2.1 s.2.2.2.1 s.2.2.2.2.1 s.2.2.2.2.2.1 s.2.2.2.2.2.2.1 s.2.2.2.2.2.2.2.1 s.2.2.2.2.2.2.2.2.1 s.2.2.2.2.2.2.2.2.2.1 s.2.2.2.2.2.2.2.2.2.2.1 s.2.2.2.2.2.2.2.2.2.2.2) (fun n s hI hk => hs n s.1 s.2.1 s.2.2.1 s.2.2.2.1 s.2.2.2.2.1 s.2.2.2.2.2.1 s.2.2.2.2.2.2.1 s.2.2.2.2.2.2.2.1 s.2.2.2.2.2.2.2.2.1 s.2.2.2.2.2.2.2.2.2.1 s.2.2.2.2.2.2.2.2.2.2.1 s.2.2.2.2.2.2.2.2.2.2.2 hI (fun b1 b2 b3 b4 b5 b6 b7 b8 b9 b10 b11 b12 h9 hm => hk (b1, b2, b3, b4, b5, b6, b7, b8, b9, b10, b11, b12) h9 hm)) (a1, a2, a3, a4, a5, a6, a7, a8, a9, a10, a11, a12) h
theorem lp13 {A1 A2 A3 A4 A5 A6 A7 A8 A9 A10 A11 A12 A13 : Type} (W : Nat → A1 → A2 → A3 → A4 → A5 → A6 → A7 → A8 → A9 → A10 → A11 → A12 → A13 → Prop) (I : A1 → A2 → A3 → A4 → A5 → A6 → A7 → A8 → A9 → A10 → A11 → A12 → A13 → Prop) (μ : A1 → A2 → A3 → A4 → A5 → A6 → A7 → A8 → A9 → A10 → A11 → A12 → A13 → Nat) (hs : ∀ (n : Nat) (a1 : A1) (a2 : A2) (a3 : A3) (a4 : A4) (a5 : A5) (a6 : A6) (a7 : A7) (a8 : A8) (a9 : A9) (a10 : A10) (a11 : A11) (a12 : A12) (a13 : A13), I a1 a2 a3 a4 a5 a6 a7 a8 a9 a10 a11 a12 a13 → (∀ (b1 : A1) (b2 : A2) (b3 : A3) (b4 : A4) (b5 : A5) (b6 : A6) (b7 : A7) (b8 : A8) (b9 : A9) (b10 : A10) (b11 : A11) (b12 : A12) (b13 : A13), I b1 b2 b3 b4 b5 b6 b7 b8 b9 b10 b11 b12 b13 → μ b1 b2 b3 b4 b5 b6 b7 b8 b9 b10 b11 b12 b13 < μ a1 a2 a3 a4 a5 a6 a7 a8 a9 a10 a11 a12 a13 → W n b1 b2 b3 b4 b5 b6 b7 b8 b9 b10 b11 b12 b13) → W (n + 1) a1 a2 a3 a4 a5 a6 a7 a8 a9 a10 a11 a12 a13) (a1 : A1) (a2 : A2) (a3 : A3) (a4 : A4) (a5 : A5) (a6 : A6) (a7 : A7) (a8 : A8) (a9 : A9) (a10 : A10) (a11 : A11) (a12 : A12) (a13 : A13) (h : I a1 a2 a3 a4 a5 a6 a7 a8 a9 a10 a11 a12 a13) : ∃ n, W n a1 a2 a3 a4 a5 a6 a7 a8 a9 a10 a11 a12 a13 :=
  loop_m (σ := A1 × A2 × A3 × A4 × A5 × A6 × A7 × A8 × A9 × A10 × A11 × A12 × A13) (fun n s => W n s.1 s.2.1 s.2.2.1 s.2.2.2.1 s.2.2.2.2.1 s.2.2.2.2.2.1 s.2.2.2.2.2.2.1 s.2.2.2.2.2.2.2.1 s.2.2.2.2.2.2.2.2.1 s.2.2.2.2.2.2.2.2.2.1 s.2.2.2.2.2.2.2.2.2.2.1 s.2.2.2.2.2.2.2.2.2.2.2.1 s.2.2.2.2.2.2.2.2.2.2.2.2) (fun s => I s.1 s.2.1 s.2.2.1 s.2.2.2.1 s.2.2.2.2.1 s.2.2.2.2.2.1 s.2.2.2.2.2.2.1 s.2.2.2.2.2.2.2.1 s.2.2.2.2.2.2.2.2.1 s.2.2.2.2.2.2.2.2.2.1 s.2.2.2.2.2.2.2.2.2.2.1 s.2.2.2.2.2.2.2.2.2.2.2.1 s.2.2.2.2.2.2.2.2.2.2.2.2) (fun s => μ s.1 s.2.1 s.2.2.1 s.2.2.2.1 s.2.2.2.2.1 s.2.2.2.2.2.1 s.2.2.2.2.2.2.1 s.2.2.2.2.2.2.2.1 s.2.2.2.2.2.2.2.2.1 s.2.2.2.2.2.2.2.2.2.1 s.2.2.2.2.2.2.2.2.2.2.1 s.2.2.2.2.2.2.2.2.2.2.2.1 s.2.2.2.2.2.2.2.2.2.2.2.2) (fun n s hI hk => hs n s.1 s.2.1 s.2.2.1 s.2.2.2.1 s.2.2.2.2.1 s.2.2.2.2.2.1 s.2.2.2.2.2.2.1 s.2.2.2.2.2.2.2.1 s.2.2.2.2.2.2.2.2.1 s.2.2.2.2.2.2.2.2.2.1 s.2.2.2.2.2.2.2.2.2.2.1 s.2.2.2.2.2.2.2.2.2.2.2.1 s.2.2.2.2.2.2.2.2.2.2.2.2 hI (fun b1 b2 b3 b4 b5 b6 b7 b8 b9 b10 b11 b12 b13 h9 hm => hk (b1, b2, b3, b4, b5, b6, b7, b8, b9, b10, b11, b12, b13) h9 hm)) (a1, a2, a3, a4, a5, a6, a7, a8, a9, a10, a11, a12, a13) h
theorem lp14 {A1 A2 A3 A4 A5 A6 A7 A8 A9 A10 A11 A12 A13 A14 : Type} (W : Nat → A1 → A2 → A3 → A4 → A5 → A6 → A7 → A8 → A9 → A10 → A11 → A12 → A13 → A14 → Prop) (I : A1 → A2 → A3 → A4 → A5 → A6 → A7 → A8 → A9 → A10 → A11 → A12 → A13 → A14 → Prop) (μ : A1 → A2 → A3 → A4 → A5 → A6 → A7 → A8 → A9 → A10 → A11 → A12 → A13 → A14 → Nat) (hs : ∀ (n : Nat) (a1 : A1) (a2 : A2) (a3 : A3) (a4 : A4) (a5 : A5) (a6 : A6) (a7 : A7) (a8 : A8) (a9 : A9) (a10 : A10) (a11 : A11) (a12 : A12) (a13 : A13) (a14 : A14), I a1 a2 a3 a4 a5 a6 a7 a8 a9 a10 a11 a12 a13 a14 → (∀ (b1 : A1) (b2 : A2) (b3 : A3) (b4 : A4) (b5 : A5) (b6 : A6) (b7 : A7) (b8 : A8) (b9 : A9) (b10 : A10) (b11 : A11) (b12 : A12) (b13 : A13) (b14 : A14), I b1 b2 b3 b4 b5 b6 b7 b8 b9 b10 b11 b12 b13 b14 → μ b1 b2 b3 b4 b5 b6 b7 b8 b9 b10 b11 b12 b13 b14 < μ a1 a2 a3 a4 a5 a6 a7 a8 a9 a10 a11 a12 a13 a14 → W n b1 b2 b3 b4 b5 b6 b7 b8 b9 b10 b11 b12 b13 b14) → W (n + 1) a1 a2 a3 a4 a5 a6 a7 a8 a9 a10 a11 a12 a13 a14) (a1 : A1) (a2 : A2) (a3 : A3) (a4 : A4) (a5 : A5) (a6 : A6) (a7 : A7) (a8 : A8) (a9 : A9) (a10 : A10) (a11 : A11) (a12 : A12) (a13 : A13) (a14 : A14) (h : I a1 a2 a3 a4 a5 a6 a7 a8 a9 a10 a11 a12 a13 a14) : ∃ n, W n a1 a2 a3 a4 a5 a6 a7 a8 a9 a10 a11 a12 a13 a14 :=
  loop_m (σ := A1 × A2 × A3 × A4 × A5 × A6 × A7 × A8 × A9 × A10 × A11 × A12 × A13 × A14) (fun n s => W n s.1 s.2.1 s.2.2.1 s.2.2.2.1 s.2.2.2.2.1 s.2.2.2.2.2.1 s.2.2.2.2.2.2.1 s.2.2.2.2.2.2.2.1 s.2.2.2.2.2.2.2.2.1 s.2.2.2.2.2.2.2.2.2.1 s.2.2.2.2.2.2.2.2.2.2.1 s.2.2.2.2.2.2.2.2.2.2.2.1 s.2.2.2.2.2.2.2.2.2.2.2.2.1 s.2.2.2.2.2.2.2.2.2.2.2.2.2) (fun s => I s.1 s.2.1 s.2.2.1 s.2.2.2.1 s.2.2.2.2.1 s.2.2.2.2.2.1 s.2.2.2.2.2.2.1 s.2.2.2.2.2.2.2.1 s.2.2.2.2.2.2.2.2.1 s.2.2.2.2.2.2.2.2.2.1 s.2.2.2.2.2.2.2.2.2.2.1 s.2.2.2.2.2.2.2.2.2.2.2.1 s.2.2.2.2.2.2.2.2.2.2.2.2.1 s.2.2.2.2.2.2.2.2.2.2.2.2.2) (fun s => μ s.1 s.2.1 s.2.2.1 s.2.2.2.1 s.2.2.2.2.1 s.2.2.2.2.2.1 s.2.2.2.2.2.2.1 s.2.2.2.2.2.2.2.1 s.2.2.2.2.2.2.2.2.1 s.2.2.2.2.2.2.2.2.2.1 s.2.2.2.2.2.2.2.2.2.2.1 s.2.2.2.2.2.2.2.2.2.2.2.1 s.2.2.2.2.2.2.2.2.2.2.2.2.1 s.2.2.2.2.2.2.2.2.2.2.2.2.2) (fun n s hI hk => hs n s.1 s.2.1 s.2.2.1 s.2.2.2.1 s.2.2.2.2.1 s.2.2.2.2.2.1 s.2.2.2.2.2.2.1 s.2.2.2.2.2.2.2.1 s.2.2.2.2.2.2.2.2.1 s.2.2.2.2.2.2.2.2.2.1 s.2.2.2.2.2.2.2.2.2.2.1 s.2.2.2.2.2.2.2.2.2.2.2.1 s.2.2.2.2.2.2.2.2.2.2.2.2.1 s.2.2.2.2.2.2.2.2.2.2.2.2.2 hI (fun b1 b2 b3 b4 b5 b6 b7 b8 b9 b10 b11 b12 b13 b14 h9 hm => hk (b1, b2, b3, b4, b5, b6, b7, b8, b9, b10, b11, b12, b13, b14) h9 hm)) (a1, a2, a3, a4, a5, a6, a7, a8, a9, a10, a11, a12, a13, a14) h
theorem lp15 {A1 A2 A3 A4 A5 A6 A7 A8 A9 A10 A11 A12 A13 A14 A15 : Type} (W : Nat → A1 → A2 → A3 → A4 → A5 → A6 → A7 → A8 → A9 → A10 → A11 → A12 → A13 → A14 → A15 → Prop) (I : A1 → A2 → A3 → A4 → A5 → A6 → A7 → A8 → A9 → A10 → A11 → A12 → A13 → A14 → A15 → Prop) (μ : A1 → A2 → A3 → A4 → A5 → A6 → A7 → A8 → A9 → A10 → A11 → A12 → A13 → A14 → A15 → Nat) (hs : ∀ (n : Nat) (a1 : A1) (a2 : A2) (a3 : A3) (a4 : A4) (a5 : A5) (a6 : A6) (a7 : A7) (a8 : A8) (a9 : A9) (a10 : A10) (a11 : A11) (a12 : A12) (a13 : A13) (a14 : A14) (a15 : A15), I a1 a2 a3 a4 a5 a6 a7 a8 a9 a10 a11 a12 a13 a14 a15 → (∀ (b1 : A1) (b2 : A2) (b3 : A3) (b4 : A4) (b5 : A5) (b6 : A6) (b7 : A7) (b8 : A8) (b9 : A9) (b10 : A10) (b11 : A11) (b12 : A12) (b13 : A13) (b14 : A14) (b15 : A15), I b1 b2 b3 b4 b5 b6 b7 b8 b9 b10 b11 b12 b13 b14 b15 → μ b1 b2 b3 b4 b5 b6 b7 b8 b9 b10 b11 b12 b13 b14 b15 < μ a1 a2 a3 a4 a5 a6 a7 a8 a9 a10 a11 a12 a13 a14 a15 → W n b1 b2 b3 b4 b5 b6 b7 b8 b9 b10 b11 b12 b13 b14 b15) → W (n + 1) a1 a2 a3 a4 a5 a6 a7 a8 a9 a10 a11 a12 a13 a14 a15) (a1 : A1) (a2 : A2) (a3 : A3) (a4 : A4) (a5 : A5) (a6 : A6) (a7 : A7) (a8 : A8) (a9 : A9) (a10 : A10) (a11 : A11) (a12 : A12) (a13 : A13) (a14 : A14) (a15 : A15) (h : I a1 a2 a3 a4 a5 a6 a7 a8 a9 a10 a11 a12 a13 a14 a15) : ∃ n, W n a1 a2 a3 a4 a5 a6 a7 a8 a9 a10 a11 a12 a13 a14 a15 :=
  loop_m (σ := A1 × A2 × A3 × A4 × A5 × A6 × A7 × A8 × A9 × A10 × A11 × A12 × A13 × A14 × A15) (fun n s => W n s.1 s.2.1 s.2.2.1 s.2.2.2.1 s.2.2.2.2.1 s.2.2.2.2.2.1 s.2.2.2.2.2.2.1 s.2.2.2.2.2.2.2.1 s.2.2.2.2.2.2.2.2.1 s.2.2.2.2.2.2.2.2.2.1 s.2.2.2.2.2.2.2.2.2.2.1 s.2.2.2.2.2.2.2.2.2.2.2.1 s.2.2.2.2.2.2.2.2.2.2.2.2.1 s.2.2.2.2.2.2.2.2.2.2.2.2.2.1 s.2.2.2.2.2.2.2.2.2.2.2.2.2.2) (fun s => I s.1 s.2.1 s.2.2.1 s.2.2.2.1 s.2.2.2.2.1 s.2.2.2.2.2.1 s.2.2.2.2.2.2.1 s.2.2.2.2.2.2.2.1 s.2.2.2.2.2.2.2.2.1 s.2.2.2.2.2.2.2.2.2.1 s.2.2.2.2.2.2.2.2.2.2.1 s.2.2.2.2.2.2.2.2.2.2.2.1 s.2.2.2.2.2.2.2.2.2.2.2.2.1 s.2.2.2.2.2.2.2.2.2.2.2.2.2.1 s.2.2.2.2.2.2.2.2.2.2.2.2.2.2) (fun s => μ s.1 s.2.1 s.2.2.1 s.2.2.2.1 s.2.2.2.2.1 s.2.2.2.2.2.1 s.2.2.2.2.2.2.1 s.2.2.2.2.2.2.2.1 s.2.2.2.2.2.2.2.2.1 s.2.2.2.2.2.2.2.2.2.1 s.2.2.2.2.2.2.2.2.2.2.1 s.2.2.2.2.2.2.2.2.2.2.2.1 s.2.2.2.2.2.2.2.2.2.2.2.2.1 s.2.2.2.2.2.2.2.2.2.2.2.2.2.1 s.2.2.2.2.2.2.2.2.2.2.2.2.2.2) (fun n s hI hk => hs n s.1 s.2.1 s.2.2.1 s.2.2.2.1 s.2.2.2.2.1 s.2.2.2.2.2.1 s.2.2.2.2.2.2.1 s.2.2.2.2.2.2.2.1 s.2.2.2.2.2.2.2.2.1 s.2.2.2.2.2.2.2.2.2.1 s.2.2.2.2.2.2.2.2.2.2.1 s.2.2.2.2.2.2.2.2.2.2.2.1 s.2.2.2.2.2.2.2.2.2.2.2.2.1 s.2.2.2.2.2.2.2.2.2.2.2.2.2.1 s.2.2.2.2.2.2.2.2.2.2.2.2.2.2 hI (fun b1 b2 b3 b4 b5 b6 b7 b8 b9 b10 b11 b12 b13 b14 b15 h9 hm => hk (b1, b2, b3, b4, b5, b6, b7, b8, b9, b10, b11, b12, b13, b14, b15) h9 hm)) (a1, a2, a3, a4, a5, a6, a7, a8, a9, a10, a11, a12, a13, a14, a15) h
theorem lp16 {A1 A2 A3 A4 A5 A6 A7 A8 A9 A10 A11 A12 A13 A14 A15 A16 : Type} (W : Nat → A1 → A2 → A3 → A4 → A5 → A6 → A7 → A8 → A9 → A10 → A11 → A12 → A13 → A14 → A15 → A16 → Prop) (I : A1 → A2 → A3 → A4 → A5 → A6 → A7 → A8 → A9 → A10 → A11 → A12 → A13 → A14 → A15 → A16 → Prop) (μ : A1 → A2 → A3 → A4 → A5 → A6 → A7 → A8 → A9 → A10 → A11 → A12 → A13 → A14 → A15 → A16 → Nat) (hs : ∀ (n : Nat) (a1 : A1) (a2 : A2) (a3 : A3) (a4 : A4) (a5 : A5) (a6 : A6) (a7 : A7) (a8 : A8) (a9 : A9) (a10 : A10) (a11 : A11) (a12 : A12) (a13 : A13) (a14 : A14) (a15 : A15) (a16 : A16), I a1 a2 a3 a4 a5 a6 a7 a8 a9 a10 a11 a12 a13 a14 a15 a16 → (∀ (b1 : A1) (b2 : A2) (b3 : A3) (b4 : A4) (b5 : A5) (b6 : A6) (b7 : A7) (b8 : A8) (b9 : A9) (b10 : A10) (b11 : A11) (b12 : A12) (b13 : A13) (b14 : A14) (b15 : A15) (b16 : A16), I b1 b2 b3 b4 b5 b6 b7 b8 b9 b10 b11 b12 b13 b14 b15 b16 → μ b1 b2 b3 b4 b5 b6 b7 b8 b9 b10 b11 b12 b13 b14 b15 b16 < μ a1 a2 a3 a4 a5 a6 a7 a8 a9 a10 a11 a12 a13 a14 a15 a16 → W n b1 b2 b3 b4 b5 b6 b7 b8 b9 b10 b11 b12 b13 b14 b15 b16) → W (n + 1) a1 a2 a3 a4 a5 a6 a7 a8 a9 a10 a11 a12 a13 a14 a15 a16) (a1 : A1) (a2 : A2) (a3 : A3) (a4 : A4) (a5 : A5) (a6 : A6) (a7 : A7) (a8 : A8) (a9 : A9) (a10 : A10) (a11 : A11) (a12 : A12) (a13 : A13) (a14 : A14) (a15 : A15) (a16 : A16) (h : I a1 a2 a3 a4 a5 a6 a7 a8 a9 a10 a11 a12 a13 a14 a15 a16) : ∃ n, W n a1 a2 a3 a4 a5 a6 a7 a8 a9 a10 a11 a12 a13 a14 a15 a16 :=
  loop_m (σ := A1 × A2 × A3 × A4 × A5 × A6 × A7 × A8 × A9 × A10 × A11 × A12 × A13 × A14 × A15 × A16) (fun n s => W n s.1 s.2.1 s.2.2.1 s.2.2.2.1 s.2.2.2.2.1 s.2.2.2.2.2.1 s.2.2.2.2.2.2.1 s.2.2.2.2.2.2.2.1 s.2.2.2.2.2.2.2.2.1 s.2.2.2.2.2.2.2.2.2.1 s.2.2.2.2.2.2.2.2.2.2.1 s.2.2.2.2.2.2.2.2.2.2.2.1 s.2.2.2.2.2.2.2.2.2.2.2.2.1 s.2.2.2.2.2.2.2.2.2.2.2.2.2.1 s.2.2.2.2.2.2.2.2.2.2.2.2.2.2.1 s.2.2.2.2.2.2.2.2.2.2.2.2.2.2.2) (fun s => I s.1 s.2.1 s.2.2.1 s.2.2.2.1 s.2.2.2.2.1 s.2.2.2.2.2.1 s.2.2.2.2.2.2.1 s.2.2.2.2.2.2.2.1 s.2.2.2.2.2.2.2.2.1 s.2.2.2.2.2.2.2.2.2.1 s.2.2.2.2.2.2.2.2.2.2.1 s.2.2.2.2.2.2.2.2.2.2.2.1 s.2.2.2.2.2.2.2.2.2.2.2.2.1 s.2.2.2.2.2.2.2.2.2.2.2.2.2.1 s.2.2.2.2.2.2.2.2.2.2.2.2.2.2.1 s.2.2.2.2.2.2.2.2.2.2.2.2.2.2.2) (fun s => μ s.1 s.2.1 s.2.2.1 s.2.2.2.1 s.2.2.2.2.1 s.2.2.2.2.2.1 s.2.2.2.2.2.2.1 s.2.2.2.2.2.2.2.1 s.2.2.2.2.2.2.2.2.1 s.2.2.2.2.2.2.2.2.2.1 s.2.2.2.2.2.2.2.2.2.2.1 s.2.2.2.2.2.2.2.2.2.2.2.1 s.2.2.2.2.2.2.2.2.2.2.2.2.1 s.2.2.2.2.2.2.2.2.2.2.2.2.2.1 s.2.2.2.2.2.2.2.2.2.2.2.2.2.2.1 s.2.2.2.2.2.2.2.2.2.2.2.2.2.2.2) (fun n s hI hk => hs n s.1 s.2.1 s.2.2.1 s.2.2.2.1 s.2.2.2.2.1 s.2.2.2.2.2.1 s.2.2.2.2.2.2.1 s.2.2.2.2.2.2.2.1 s.2.2.2.2.2.2.2.2.1 s.2.2.2.2.2.2.2.2.2.1 s.2.2.2.2.2.2.2.2.2.2.1 s.2.2.2.2.2.2.2.2.2.2.2.1 s.2.2.2.2.2.2.2.2.2.2.2.2.1 s.2.2.2.2.2.2.2.2.2.2.2.2.2.1 s.2.2.2.2.2.2.2.2.2.2.2.2.2.2.1 s.2.2.2.2.2.2.2.2.2.2.2.2.2.2.2 hI (fun b1 b2 b3 b4 b5 b6 b7 b8 b9 b10 b11 b12 b13 b14 b15 b16 h9 hm => hk (b1, b2, b3, b4, b5, b6, b7, b8, b9, b10, b11, b12, b13, b14, b15, b16) h9 hm)) (a1, a2, a3, a4, a5, a6, a7, a8, a9, a10, a11, a12, a13, a14, a15, a16) h
theorem pk_least (P : Nat → Prop) (h : ∃ k, P k) : ∃ k, P k ∧ ∀ j, j < k → ¬ P j := by
  obtain ⟨k, hk⟩ := h
  induction k using Nat.strongRecOn with
  | ind k ih =>
    by_cases e : ∃ j, j < k ∧ P j
    · obtain ⟨j, hj, pj⟩ := e
      exact ih j hj pj
    · exact ⟨k, hk, fun j hj pj => e ⟨j, hj, pj⟩⟩
theorem rp1 {ρ A1 : Type} (W : Nat → (ρ → Prop) → A1 → Prop) (ok : A1 → Prop) (μ : A1 → Nat) (val : A1 → ρ)
    (hs : ∀ (d : Nat) (post : ρ → Prop) (a1 : A1), ok a1 → post (val a1) → (∀ (post' : ρ → Prop) (b1 : A1), ok b1 → μ b1 < μ a1 → post' (val b1) → W d post' b1) → W (d + 1) post a1) :
    ∀ (d : Nat) (post : ρ → Prop) (a1 : A1), ok a1 → μ a1 < d → post (val a1) → W d post a1 := by
  intro d
  induction d with
  | zero => intro post a1 _ h; omega
  | succ d ih =>
    intro post a1 ho hm hp
    exact hs d post a1 ho hp (fun post' b1 ho' hm' hp' => ih post' b1 ho' (by omega) hp')
theorem rp2 {ρ A1 A2 : Type} (W : Nat → (ρ → Prop) → A1 → A2 → Prop) (ok : A1 → A2 → Prop) (μ : A1 → A2 → Nat) (val : A1 → A2 → ρ)
    (hs : ∀ (d : Nat) (post : ρ → Prop) (a1 : A1) (a2 : A2), ok a1 a2 → post (val a1 a2) → (∀ (post' : ρ → Prop) (b1 : A1) (b2 : A2), ok b1 b2 → μ b1 b2 < μ a1 a2 → post' (val b1 b2) → W d post' b1 b2) → W (d + 1) post a1 a2) :
    ∀ (d : Nat) (post : ρ → Prop) (a1 : A1) (a2 : A2), ok a1 a2 → μ a1 a2 < d → post (val a1 a2) → W d post a1 a2 := by
  intro d
  induction d with
  | zero => intro post a1 a2 _ h; omega
  | succ d ih =>
    intro post a1 a2 ho hm hp
    exact hs d post a1 a2 ho hp (fun post' b1 b2 ho' hm' hp' => ih post' b1 b2 ho' (by omega) hp')
theorem rp3 {ρ A1 A2 A3 : Type} (W : Nat → (ρ → Prop) → A1 → A2 → A3 → Prop) (ok : A1 → A2 → A3 → Prop) (μ : A1 → A2 → A3 → Nat) (val : A1 → A2 → A3 → ρ)
    (hs : ∀ (d : Nat) (post : ρ → Prop) (a1 : A1) (a2 : A2) (a3 : A3), ok a1 a2 a3 → post (val a1 a2 a3) → (∀ (post' : ρ → Prop) (b1 : A1) (b2 : A2) (b3 : A3), ok b1 b2 b3 → μ b1 b2 b3 < μ a1 a2 a3 → post' (val b1 b2 b3) → W d post' b1 b2 b3) → W (d + 1) post a1 a2 a3) :
    ∀ (d : Nat) (post : ρ → Prop) (a1 : A1) (a2 : A2) (a3 : A3), ok a1 a2 a3 → μ a1 a2 a3 < d → post (val a1 a2 a3) → W d post a1 a2 a3 := by
  intro d
  induction d with
  | zero => intro post a1 a2 a3 _ h; omega
  | succ d ih =>
    intro post a1 a2 a3 ho hm hp
    exact hs d post a1 a2 a3 ho hp (fun post' b1 b2 b3 ho' hm' hp' => ih post' b1 b2 b3 ho' (by omega) hp')
theorem rp4 {ρ A1 A2 A3 A4 : Type} (W : Nat → (ρ → Prop) → A1 → A2 → A3 → A4 → Prop) (ok : A1 → A2 → A3 → A4 → Prop) (μ : A1 → A2 → A3 → A4 → Nat) (val : A1 → A2 → A3 → A4 → ρ)
    (hs : ∀ (d : Nat) (post : ρ → Prop) (a1 : A1) (a2 : A2) (a3 : A3) (a4 : A4), ok a1 a2 a3 a4 → post (val a1 a2 a3 a4) → (∀ (post' : ρ → Prop) (b1 : A1) (b2 : A2) (b3 : A3) (b4 : A4), ok b1 b2 b3 b4 → μ b1 b2 b3 b4 < μ a1 a2 a3 a4 → post' (val b1 b2 b3 b4) → W d post' b1 b2 b3 b4) → W (d + 1) post a1 a2 a3 a4) :
    ∀ (d : Nat) (post : ρ → Prop) (a1 : A1) (a2 : A2) (a3 : A3) (a4 : A4), ok a1 a2 a3 a4 → μ a1 a2 a3 a4 < d → post (val a1 a2 a3 a4) → W d post a1 a2 a3 a4 := by
  intro d
  induction d with
  | zero => intro post a1 a2 a3 a4 _ h; omega
  | succ d ih =>
    intro post a1 a2 a3 a4 ho hm hp
    exact hs d post a1 a2 a3 a4 ho hp (fun post' b1 b2 b3 b4 ho' hm' hp' => ih post' b1 b2 b3 b4 ho' (by omega) hp')
theorem rp5 {ρ A1 A2 A3 A4 A5 : Type} (W : Nat → (ρ → Prop) → A1 → A2 → A3 → A4 → A5 → Prop) (ok : A1 → A2 → A3 → A4 → A5 → Prop) (μ : A1 → A2 → A3 → A4 → A5 → Nat) (val : A1 → A2 → A3 → A4 → A5 → ρ)
    (hs : ∀ (d : Nat) (post : ρ → Prop) (a1 : A1) (a2 : A2) (a3 : A3) (a4 : A4) (a5 : A5), ok a1 a2 a3 a4 a5 → post (val a1 a2 a3 a4 a5) → (∀ (post' : ρ → Prop) (b1 : A1) (b2 : A2) (b3 : A3) (b4 : A4) (b5 : A5), ok b1 b2 b3 b4 b5 → μ b1 b2 b3 b4 b5 < μ a1 a2 a3 a4 a5 → post' (val b1 b2 b3 b4 b5) → W d post' b1 b2 b3 b4 b5) → W (d + 1) post a1 a2 a3 a4 a5) :
    ∀ (d : Nat) (post : ρ → Prop) (a1 : A1) (a2 : A2) (a3 : A3) (a4 : A4) (a5 : A5), ok a1 a2 a3 a4 a5 → μ a1 a2 a3 a4 a5 < d → post (val a1 a2 a3 a4 a5) → W d post a1 a2 a3 a4 a5 := by
  intro d
  induction d with
  | zero => intro post a1 a2 a3 a4 a5 _ h; omega
  | succ d ih =>
    intro post a1 a2 a3 a4 a5 ho hm hp
    exact hs d post a1 a2 a3 a4 a5 ho hp (fun post' b1 b2 b3 b4 b5 ho' hm' hp' => ih post' b1 b2 b3 b4 b5 ho' (by omega) hp')
theorem rp6 {ρ A1 A2 A3 A4 A5 A6 : Type} (W : Nat → (ρ → Prop) → A1 → A2 → A3 → A4 → A5 → A6 → Prop) (ok : A1 → A2 → A3 → A4 → A5 → A6 → Prop) (μ : A1 → A2 → A3 → A4 → A5 → A6 → Nat) (val : A1 → A2 → A3 → A4 → A5 → A6 → ρ)
    (hs : ∀ (d : Nat) (post : ρ → Prop) (a1 : A1) (a2 : A2) (a3 : A3) (a4 : A4) (a5 : A5) (a6 : A6), ok a1 a2 a3 a4 a5 a6 → post (val a1 a2 a3 a4 a5 a6) → (∀ (post' : ρ → Prop) (b1 : A1) (b2 : A2) (b3 : A3) (b4 : A4) (b5 : A5) (b6 : A6), ok b1 b2 b3 b4 b5 b6 → μ b1 b2 b3 b4 b5 b6 < μ a1 a2 a3 a4 a5 a6 → post' (val b1 b2 b3 b4 b5 b6) → W d post' b1 b2 b3 b4 b5 b6) → W (d + 1) post a1 a2 a3 a4 a5 a6) :
    ∀ (d : Nat) (post : ρ → Prop) (a1 : A1) (a2 : A2) (a3 : A3) (a4 : A4) (a5 : A5) (a6 : A6), ok a1 a2 a3 a4 a5 a6 → μ a1 a2 a3 a4 a5 a6 < d → post (val a1 a2 a3 a4 a5 a6) → W d post a1 a2 a3 a4 a5 a6 := by
  intro d
  induction d with
  | zero => intro post a1 a2 a3 a4 a5 a6 _ h; omega
  | succ d ih =>
    intro post a1 a2 a3 a4 a5 a6 ho hm hp
    exact hs d post a1 a2 a3 a4 a5 a6 ho hp (fun post' b1 b2 b3 b4 b5 b6 ho' hm' hp' => ih post' b1 b2 b3 b4 b5 b6 ho' (by omega) hp')
theorem rec_p {σ ρ : Type} (W : Nat → (ρ → Prop) → σ → Prop) (ok : σ → Prop) (μ : σ → Nat) (val : σ → ρ)
    (hs : ∀ d s post, ok s → post (val s) → (∀ s' post', ok s' → μ s' < μ s → post' (val s') → W d post' s') → W (d + 1) post s) :
    ∀ d s post, ok s → μ s < d → post (val s) → W d post s := by
  intro d
  induction d with
  | zero => intro s post _ h; omega
  | succ d ih =>
    intro s post ho hm hp
    exact hs d s post ho hp (fun s' post' ho' hm' hp' => ih s' post' ho' (by omega) hp')
theorem rec_q {σ ρ : Type} (W : Nat → (ρ → Prop) → σ → Prop) (ok : σ → Prop) (μ : σ → Nat) (Q : σ → ρ → Prop)
    (hs : ∀ d s post, ok s → (∀ r, Q s r → post r) → (∀ s' post', ok s' → μ s' < μ s → (∀ r, Q s' r → post' r) → W d post' s') → W (d + 1) post s) :
    ∀ d s post, ok s → μ s < d → (∀ r, Q s r → post r) → W d post s := by
  intro d
  induction d with
  | zero => intro s post _ h; omega
  | succ d ih =>
    intro s post ho hm hp
    exact hs d s post ho hp (fun s' post' ho' hm' hp' => ih s' post' ho' (by omega) hp')
def bx_sum (f : Nat → Int32) : Nat → Int32
  | 0 => 0
  | n + 1 => bx_sum f n + f n
theorem ek_u {A : Prop} {B : Nat → Prop} {k N : Nat} (hk : k < N) (h : B k) : (some k = none → A) ∧ (∀ y : Nat, some k = some y → (y < N ∧ B y)) :=
  ⟨fun z => absurd z (Option.some_ne_none k), fun _ e => (by cases e; exact ⟨hk, h⟩)⟩
theorem ek_nu {A : Prop} {B : Nat → Prop} (h : A) : ((none : Option Nat) = none → A) ∧ (∀ y : Nat, (none : Option Nat) = some y → B y) :=
  ⟨fun _ => h, fun _ e => (by cases e)⟩
theorem ek_if {c d A B : Prop} (e : c ↔ d) (f : d → A) (g : ¬ d → B) : (c → A) ∧ (¬ c → B) :=
  ⟨fun z => f (e.mp z), fun z => g (fun y => z (e.mpr y))⟩
theorem ek_v {α : Sort _} {P : α → Prop} {a b : α} (e : a = b) (h : P b) : P a := e ▸ h
theorem co_some {x : Option Nat} {A : Prop} {B : Nat → Prop} (i : Nat) (h : B i) (hx : x = some i := by rfl) : (x = none → A) ∧ (∀ y : Nat, x = some y → B y) := by
  subst hx
  exact ⟨fun e => (nomatch e), fun y e => Option.some.inj e ▸ h⟩
theorem co_none {x : Option Nat} {A : Prop} {B : Nat → Prop} (h : A) (hx : x = none := by rfl) : (x = none → A) ∧ (∀ y : Nat, x = some y → B y) := by
  subst hx
  exact ⟨fun _ => h, fun y e => (nomatch e)⟩
theorem co_any {x : Option Nat} {A : Prop} {B : Nat → Prop} (hn : x = none → A) (hs : ∀ i : Nat, x = some i → B i) : (x = none → A) ∧ (∀ y : Nat, x = some y → B y) := ⟨hn, hs⟩
theorem co_2 {P : Nat → Prop} (h0 : P 0) (h1 : P 1) {i : Nat} (hi : i < 2) : P i :=
  match i, hi with
  | 0, _ => h0
  | 1, _ => h1
theorem co_3 {P : Nat → Prop} (h0 : P 0) (h1 : P 1) (h2 : P 2) {i : Nat} (hi : i < 3) : P i :=
  match i, hi with
  | 0, _ => h0
  | 1, _ => h1
  | 2, _ => h2
theorem co_4 {P : Nat → Prop} (h0 : P 0) (h1 : P 1) (h2 : P 2) (h3 : P 3) {i : Nat} (hi : i < 4) : P i :=
  match i, hi with
  | 0, _ => h0
  | 1, _ => h1
  | 2, _ => h2
  | 3, _ => h3
theorem co_dec {N : Nat} {P : Nat → Prop} [DecidablePred P] (h : (List.range N).all (fun i => decide (P i)) = true) {i : Nat} (hi : i < N) : P i := by
  have := List.all_eq_true.mp h i (List.mem_range.mpr hi)
  exact of_decide_eq_true this
theorem co_tab {α : Type} {l : List α} {d : α} {P : α → Prop} (h : ∀ a, a ∈ l → P a) {i : Nat} (hi : i < l.length) : P (l.getD i d) := by
  rw [List.getD_eq_getElem?_getD, List.getElem?_eq_getElem hi]
  exact h _ (List.getElem_mem hi)
theorem pk_mu {x : Int32} {L : Nat} (h0 : ¬ x < 0) (h : ¬ nI L ≤ x) (hL : L < 2 ^ 31) : ∃ j : Nat, j < L ∧ x = nI j ∧ x + 1 = nI (j + 1) ∧ x.toNatClampNeg = j ∧ L - (x + 1).toNatClampNeg < L - x.toNatClampNeg := by
  obtain ⟨j, hj, rfl⟩ := nI_of h0
  have hl : j < L := Nat.not_le.mp fun q => h (nI_le q hj)
  refine ⟨j, hl, rfl, nI_1 j, nI_clamp hj, ?_⟩
  rw [nI_1, nI_clamp (by omega), nI_clamp hj]
  omega
end
section
/-! rows on bits, shifts and unsigned numbers, to paste: each family out of a closed proof of our own, whole with what it rests on; each by itself clean at Lean in its own claim (generation 39, form 5). Take a family whole -/
/-! ===== Int32 by its bits: bt x i ===== -/
def bt (x : Int32) (i : Nat) : Bool := x.toBitVec.getLsbD i
theorem b_ext {x y : Int32} (h : ∀ i, i < 32 → bt x i = bt y i) : x = y := Int32.toBitVec_inj.mp (BitVec.eq_of_getLsbD_eq (fun i hi => h i hi))
theorem b_or (x y : Int32) (i : Nat) : bt (x ||| y) i = (bt x i || bt y i) := by unfold bt; rw [Int32.toBitVec_or, BitVec.getLsbD_or]
theorem b_and (x y : Int32) (i : Nat) : bt (x &&& y) i = (bt x i && bt y i) := by unfold bt; rw [Int32.toBitVec_and, BitVec.getLsbD_and]
theorem b_xor (x y : Int32) (i : Nat) : bt (x ^^^ y) i = (bt x i ^^ bt y i) := by unfold bt; rw [Int32.toBitVec_xor, BitVec.getLsbD_xor]
theorem b_big {x : Int32} {i : Nat} (h : 32 ≤ i) : bt x i = false := BitVec.getLsbD_of_ge _ _ h
theorem b_255 (i : Nat) : bt 255 i = decide (i < 8) := by
  rcases Nat.lt_or_ge i 32 with h | h
  · exact (by decide +kernel : ∀ i, i < 32 → bt 255 i = decide (i < 8)) i h
  · rw [b_big h, decide_eq_false (by omega)]
theorem b_65535 (i : Nat) : bt 65535 i = decide (i < 16) := by
  rcases Nat.lt_or_ge i 32 with h | h
  · exact (by decide +kernel : ∀ i, i < 32 → bt 65535 i = decide (i < 16)) i h
  · rw [b_big h, decide_eq_false (by omega)]
theorem b_m1 : ∀ i, i < 32 → bt (-1) i = true := by decide +kernel
theorem b_0 (i : Nat) : bt 0 i = false := BitVec.getLsbD_zero
theorem s_l : ∀ n, n < 32 → ((nI n &&& 31).toBitVec.smod 32).toNat = n := by decide +kernel
theorem s_u : ∀ n, n < 32 → (((nI n).toUInt32 &&& Int32.toUInt32 31).toBitVec % 32).toNat = n := by decide +kernel
theorem b_shl (n : Nat) (hn : n < 32) (x : Int32) {i : Nat} (hi : i < 32) : bt (x <<< (nI n &&& 31)) i = (decide (n ≤ i) && bt x (i - n)) := by
  unfold bt
  rw [Int32.toBitVec_shiftLeft]
  show (x.toBitVec <<< ((nI n &&& 31).toBitVec.smod 32).toNat).getLsbD i = _
  rw [s_l n hn, BitVec.getLsbD_shiftLeft]
  rcases Nat.lt_or_ge i n with h | h
  · simp [h, Nat.not_le.mpr h]
  · simp [hi, h, Nat.not_lt.mpr h]
theorem b_ushr (n : Nat) (hn : n < 32) (x : Int32) (i : Nat) : bt ((x.toUInt32 >>> ((nI n).toUInt32 &&& Int32.toUInt32 31)).toInt32) i = bt x (n + i) := by
  show (x.toUInt32 >>> ((nI n).toUInt32 &&& Int32.toUInt32 31)).toBitVec.getLsbD i = x.toUInt32.toBitVec.getLsbD (n + i)
  rw [UInt32.toBitVec_shiftRight]
  show (x.toUInt32.toBitVec >>> (((nI n).toUInt32 &&& Int32.toUInt32 31).toBitVec % 32).toNat).getLsbD i = _
  rw [s_u n hn, BitVec.getLsbD_ushiftRight]
theorem b_sshr (n : Nat) (hn : n < 32) (x : Int32) {i : Nat} (hi : i < 32) : bt (x >>> (nI n &&& 31)) i = if n + i < 32 then bt x (n + i) else bt x 31 := by
  unfold bt
  rw [Int32.toBitVec_shiftRight]
  show (x.toBitVec.sshiftRight ((nI n &&& 31).toBitVec.smod 32).toNat).getLsbD i = _
  rw [s_l n hn, BitVec.getLsbD_sshiftRight, BitVec.msb_eq_getLsbD_last]
  simp [hi]
theorem b_shl8 (x : Int32) {i : Nat} (hi : i < 32) : bt (x <<< ((8 : Int32) &&& 31)) i = (decide (8 ≤ i) && bt x (i - 8)) := b_shl 8 (by omega) x hi
theorem b_shl16 (x : Int32) {i : Nat} (hi : i < 32) : bt (x <<< ((16 : Int32) &&& 31)) i = (decide (16 ≤ i) && bt x (i - 16)) := b_shl 16 (by omega) x hi
theorem b_shl24 (x : Int32) {i : Nat} (hi : i < 32) : bt (x <<< ((24 : Int32) &&& 31)) i = (decide (24 ≤ i) && bt x (i - 24)) := b_shl 24 (by omega) x hi
theorem b_sshr8 (x : Int32) {i : Nat} (hi : i < 32) : bt (x >>> ((8 : Int32) &&& 31)) i = if 8 + i < 32 then bt x (8 + i) else bt x 31 := b_sshr 8 (by omega) x hi
end
section
/-! lists: last, head, neighbours, places; stores of a stretch -/
def rm_lst : Nat → List Nat → Nat
  | x, [] => x
  | _, y :: l => rm_lst y l
def rm_hdd (e : Nat) : List Nat → Nat
  | [] => e
  | y :: _ => y
def rm_adj (u v : Nat) : Nat → List Nat → Bool
  | _, [] => false
  | x, y :: l => (decide (x = u) && decide (y = v)) || rm_adj u v y l
def rm_g : List Nat → Nat → Nat
  | [], _ => 0
  | x :: _, 0 => x
  | _ :: l, k + 1 => rm_g l k
def rm_FF (W : List Nat) : List Nat := 60 :: (W ++ [61])
theorem rm_lst_app (x : Nat) (a b : List Nat) : rm_lst x (a ++ b) = rm_lst (rm_lst x a) b := by
  induction a generalizing x with
  | nil => rfl
  | cons y a ih => exact ih y
theorem rm_lst_mem (x : Nat) (l : List Nat) : rm_lst x l ∈ x :: l := by
  induction l generalizing x with
  | nil => exact List.mem_cons_self
  | cons y l ih => exact List.mem_cons_of_mem _ (ih y)
theorem rm_lst_snoc (x y : Nat) (a : List Nat) : rm_lst x (a ++ [y]) = y := by rw [rm_lst_app]; rfl
theorem rm_adj_app (u v x : Nat) (a b : List Nat) : rm_adj u v x (a ++ b) = (rm_adj u v x a || rm_adj u v (rm_lst x a) b) := by
  induction a generalizing x with
  | nil => rfl
  | cons y a ih =>
    show ((decide (x = u) && decide (y = v)) || rm_adj u v y (a ++ b)) = (((decide (x = u) && decide (y = v)) || rm_adj u v y a) || rm_adj u v (rm_lst y a) b)
    rw [ih, Bool.or_assoc]
theorem rm_tail (e : Nat) (w : List Nat) : w ++ [e] = rm_hdd e w :: (w ++ [e]).tail := by cases w <;> rfl
theorem rm_adj_cons {u v x y : Nat} {l : List Nat} (h : rm_adj u v x (y :: l) = true) : (x = u ∧ y = v) ∨ rm_adj u v y l = true := by
  have h2 : ((decide (x = u) && decide (y = v)) || rm_adj u v y l) = true := h
  rw [Bool.or_eq_true, Bool.and_eq_true, decide_eq_true_eq, decide_eq_true_eq] at h2
  exact h2
theorem rm_adj_c1 {u v : Nat} {l : List Nat} : rm_adj u v u (v :: l) = true := by
  show ((decide (u = u) && decide (v = v)) || rm_adj u v v l) = true
  simp
theorem rm_adj_c2 {u v x y : Nat} {l : List Nat} (h : rm_adj u v y l = true) : rm_adj u v x (y :: l) = true := by
  show ((decide (x = u) && decide (y = v)) || rm_adj u v y l) = true
  rw [h, Bool.or_true]
theorem rm_adj_mem {u v x : Nat} {l : List Nat} (h : rm_adj u v x l = true) : u ∈ x :: l ∧ v ∈ l := by
  induction l generalizing x with
  | nil => exact absurd h (by simp [rm_adj])
  | cons y l ih =>
    rcases rm_adj_cons h with ⟨rfl, rfl⟩ | h
    · exact ⟨List.mem_cons_self, List.mem_cons_self⟩
    · exact ⟨List.mem_cons_of_mem _ (ih h).1, List.mem_cons_of_mem _ (ih h).2⟩
theorem rm_adj_ne {u v x : Nat} {l : List Nat} (n : (x :: l).Nodup) (h : rm_adj u v x l = true) : u ≠ rm_lst x l := by
  induction l generalizing x with
  | nil => exact absurd h (by simp [rm_adj])
  | cons y l ih =>
    rw [List.nodup_cons] at n
    rcases rm_adj_cons h with ⟨rfl, rfl⟩ | h
    · intro e
      apply n.1
      rw [e]
      exact rm_lst_mem _ _
    · exact ih n.2 h
theorem rm_mem_adj {u x e : Nat} {l : List Nat} (h : u ∈ x :: l) : ∃ v, rm_adj u v x (l ++ [e]) = true := by
  induction l generalizing x with
  | nil =>
    have : u = x := by simpa using h
    subst this
    exact ⟨e, rm_adj_c1⟩
  | cons y l ih =>
    rcases List.mem_cons.mp h with rfl | h
    · exact ⟨y, rm_adj_c1⟩
    · obtain ⟨v, hv⟩ := ih h
      exact ⟨v, rm_adj_c2 hv⟩
theorem rm_mem_adj2 {v x : Nat} {l : List Nat} (h : v ∈ l) : ∃ u, rm_adj u v x l = true := by
  induction l generalizing x with
  | nil => simp at h
  | cons y l ih =>
    rcases List.mem_cons.mp h with rfl | h
    · exact ⟨x, rm_adj_c1⟩
    · obtain ⟨u, hu⟩ := ih (x := y) h
      exact ⟨u, rm_adj_c2 hu⟩
/-- the pairs of a row w1 Q w2 between 60 and 61 -/
theorem rm_adj3 (u v : Nat) (w1 Q w2 : List Nat) : rm_adj u v 60 ((w1 ++ (Q ++ w2)) ++ [61]) = (rm_adj u v 60 w1 || (rm_adj u v (rm_lst 60 w1) (Q ++ [rm_hdd 61 w2]) || rm_adj u v (rm_hdd 61 w2) (w2 ++ [61]).tail)) := by
  rw [List.append_assoc, List.append_assoc, rm_adj_app, rm_adj_app u v _ Q, rm_adj_app u v _ Q, rm_tail 61 w2]
  show (_ || (_ || ((decide (rm_lst (rm_lst 60 w1) Q = u) && decide (rm_hdd 61 w2 = v)) || _))) = (_ || ((_ || ((decide (rm_lst (rm_lst 60 w1) Q = u) && decide (rm_hdd 61 w2 = v)) || false)) || _))
  rw [Bool.or_false, Bool.or_assoc, List.tail_cons]
theorem rm_FF3 (w1 Q w2 : List Nat) : rm_FF (w1 ++ (Q ++ w2)) = (60 :: w1) ++ (Q ++ (w2 ++ [61])) := by simp [rm_FF]
/-! places -/
theorem rm_g_app (a b : List Nat) (k : Nat) : rm_g (a ++ b) k = if k < a.length then rm_g a k else rm_g b (k - a.length) := by
  induction a generalizing k with
  | nil => simp
  | cons y a ih =>
    cases k with
    | zero => simp [rm_g]
    | succ k =>
      show rm_g (a ++ b) k = _
      rw [ih, List.length_cons]
      by_cases h : k < a.length
      · rw [if_pos h, if_pos (by omega)]; rfl
      · rw [if_neg h, if_neg (by omega)]; congr 1; omega
theorem rm_g_l {a b : List Nat} {k : Nat} (h : k < a.length) : rm_g (a ++ b) k = rm_g a k := by rw [rm_g_app, if_pos h]
theorem rm_g_r {a b : List Nat} {k : Nat} (h : a.length ≤ k) : rm_g (a ++ b) k = rm_g b (k - a.length) := by rw [rm_g_app, if_neg (by omega)]
theorem rm_g_mem {l : List Nat} {k : Nat} (h : k < l.length) : rm_g l k ∈ l := by
  induction l generalizing k with
  | nil => simp at h
  | cons y l ih =>
    cases k with
    | zero => exact List.mem_cons_self
    | succ k => exact List.mem_cons_of_mem _ (ih (by simpa using h))
theorem rm_mem_g {l : List Nat} {x : Nat} (h : x ∈ l) : ∃ k, k < l.length ∧ rm_g l k = x := by
  induction l with
  | nil => simp at h
  | cons y l ih =>
    rcases List.mem_cons.mp h with rfl | h
    · exact ⟨0, by simp, rfl⟩
    · obtain ⟨k, hk, e⟩ := ih h
      exact ⟨k + 1, by simpa using hk, e⟩
theorem rm_g_drop (l : List Nat) (i k : Nat) : rm_g (l.drop i) k = rm_g l (i + k) := by
  induction l generalizing i with
  | nil => simp [rm_g]
  | cons y l ih =>
    cases i with
    | zero => simp
    | succ i =>
      rw [List.drop_succ_cons, ih, show i + 1 + k = (i + k) + 1 from by omega]
      rfl
theorem rm_g_take (l : List Nat) (i k : Nat) (h : k < i) : rm_g (l.take i) k = rm_g l k := by
  induction l generalizing i k with
  | nil => simp [rm_g]
  | cons y l ih =>
    cases i with
    | zero => omega
    | succ i =>
      cases k with
      | zero => rfl
      | succ k => exact ih i k (by omega)
theorem rm_g_ext {a b : List Nat} (hl : a.length = b.length) (h : ∀ k, k < a.length → rm_g a k = rm_g b k) : a = b := by
  induction a generalizing b with
  | nil => cases b with
    | nil => rfl
    | cons _ _ => simp at hl
  | cons x a ih => cases b with
    | nil => simp at hl
    | cons y b =>
      have h0 : x = y := h 0 (by simp)
      rw [h0, ih (by simpa using hl) (fun k hk => h (k + 1) (by simpa using hk))]
theorem rm_g_inj {l : List Nat} (n : l.Nodup) {i j : Nat} (hi : i < l.length) (hj : j < l.length) (e : rm_g l i = rm_g l j) : i = j := by
  induction l generalizing i j with
  | nil => simp at hi
  | cons y l ih =>
    rw [List.nodup_cons] at n
    cases i with
    | zero => cases j with
      | zero => rfl
      | succ j =>
        have hj' : j < l.length := by simpa using hj
        have e' : y = rm_g l j := e
        exact absurd (e' ▸ rm_g_mem hj') n.1
    | succ i => cases j with
      | zero =>
        have hi' : i < l.length := by simpa using hi
        have e' : rm_g l i = y := e
        exact absurd (e' ▸ rm_g_mem hi') n.1
      | succ j => exact congrArg (· + 1) (ih n.2 (by simpa using hi) (by simpa using hj) e)
theorem rm_g_range' (a n k : Nat) (h : k < n) : rm_g (List.range' a n) k = a + k := by
  induction n generalizing a k with
  | zero => omega
  | succ n ih =>
    rw [List.range'_succ]
    cases k with
    | zero => rfl
    | succ k =>
      show rm_g (List.range' (a + 1) n) k = _
      rw [ih (a + 1) k (by omega)]; omega
theorem rm_drop_cons {l : List Nat} {i : Nat} (h : i < l.length) : l.drop i = rm_g l i :: l.drop (i + 1) := by
  induction l generalizing i with
  | nil => simp at h
  | cons y l ih =>
    cases i with
    | zero => rfl
    | succ i => exact ih (by simpa using h)
theorem rm_hdd_g (w : List Nat) : rm_hdd 61 w = rm_g (w ++ [61]) 0 := by cases w <;> rfl
theorem rm_lst_g (x : Nat) (w : List Nat) : rm_lst x w = rm_g (x :: w) w.length := by
  induction w generalizing x with
  | nil => rfl
  | cons y w ih => exact ih y
theorem rm_g_FF0 (W : List Nat) : rm_g (rm_FF W) 0 = 60 := rfl
theorem rm_g_FF1 {W : List Nat} {k : Nat} (h : k < W.length) : rm_g (rm_FF W) (k + 1) = rm_g W k := by
  show rm_g (W ++ [61]) k = _
  exact rm_g_l h
theorem rm_g_FF2 (W : List Nat) : rm_g (rm_FF W) (W.length + 1) = 61 := by
  show rm_g (W ++ [61]) W.length = _
  rw [rm_g_r (Nat.le_refl _), Nat.sub_self]; rfl
/-! a stretch of an array written -/
def rm_wf (a : Nat → Int32) (b n : Nat) (f : Nat → Int32) : Nat → Int32 := fun j => if b ≤ j ∧ j < b + n then f (j - b) else a j
theorem rm_wf0 (a : Nat → Int32) (b : Nat) (f : Nat → Int32) : rm_wf a b 0 f = a := by
  funext j; exact if_neg (by omega)
theorem rm_wfS (a : Nat → Int32) (b n : Nat) (f : Nat → Int32) : upd (rm_wf a b n f) (b + n) (f n) = rm_wf a b (n + 1) f := by
  funext j
  by_cases h : j = b + n
  · subst h
    rw [pk_us]
    show _ = if _ then _ else _
    rw [if_pos (by omega)]; congr 1; omega
  · rw [pk_un h]
    show (if _ then _ else _) = if _ then _ else _
    by_cases h2 : b ≤ j ∧ j < b + n
    · rw [if_pos h2, if_pos (by omega)]
    · rw [if_neg h2, if_neg (by omega)]
theorem rm_wf_i {a : Nat → Int32} {b n : Nat} {f : Nat → Int32} {k : Nat} (h : k < n) : rm_wf a b n f (b + k) = f k := by
  show (if _ then _ else _) = _
  rw [if_pos (by omega)]; congr 1; omega
theorem rm_wf_o {a : Nat → Int32} {b n : Nat} {f : Nat → Int32} {j : Nat} (h : ¬ (b ≤ j ∧ j < b + n)) : rm_wf a b n f j = a j := if_neg h
theorem rm_wf_e {a : Nat → Int32} {b n : Nat} {f f' : Nat → Int32} (h : ∀ k, k < n → f k = f' k) : rm_wf a b n f = rm_wf a b n f' := by
  funext j
  show (if _ then _ else _) = if _ then _ else _
  by_cases h2 : b ≤ j ∧ j < b + n
  · rw [if_pos h2, if_pos h2, h _ (by omega)]
  · rw [if_neg h2, if_neg h2]
theorem rm_uu (a : Nat → Int32) (k : Nat) (x y : Int32) : upd (upd a k x) k y = upd a k y := by
  funext j
  by_cases h : j = k
  · subst h; rw [pk_us, pk_us]
  · rw [pk_un h, pk_un h, pk_un h]
theorem rm_ui (a : Nat → Int32) (k : Nat) : upd a k (a k) = a := by
  funext j
  by_cases h : j = k
  · subst h; rw [pk_us]
  · rw [pk_un h]
theorem rm_ue {a : Nat → Int32} {k : Nat} {x : Int32} (h : a k = x) : upd a k x = a := by rw [← h]; exact rm_ui a k
/-! bits -/
theorem rm_bit {x : Int32} {c : Nat} (hc : c < 31) : ((x >>> (nI c &&& 31)) &&& 1) = if bt x c = true then 1 else 0 := by
  apply b_ext
  intro i hi
  rw [b_and, b_sshr c (by omega) x hi]
  have h1 : ∀ i, i < 32 → bt 1 i = decide (i = 0) := by decide +kernel
  rw [h1 i hi]
  by_cases h0 : i = 0
  · subst h0
    rw [if_pos (by omega)]
    cases hb : bt x c <;> simp [hb, h1, b_0]
  · cases hb : bt x c
    · simp [h0, b_0]
    · simp [h0, h1 i hi]
theorem rm_bitT {x : Int32} {c : Nat} (hc : c < 31) (h : bt x c = true) : ((x >>> (nI c &&& 31)) &&& 1) = 1 := by rw [rm_bit hc, if_pos h]
theorem rm_bitF {x : Int32} {c : Nat} (hc : c < 31) (h : bt x c = false) : ¬ ((x >>> (nI c &&& 31)) &&& 1) = 1 := by
  rw [rm_bit hc, if_neg (by rw [h]; decide)]; decide
theorem rm_one {c i : Nat} (hc : c < 32) (hi : i < 32) : bt ((1 : Int32) <<< (nI c &&& 31)) i = decide (i = c) := by
  have h1 : ∀ i, i < 32 → bt 1 i = decide (i = 0) := by decide +kernel
  rw [b_shl c hc 1 hi, h1 _ (by omega)]
  by_cases h : i = c
  · subst h; simp
  · by_cases h2 : c ≤ i
    · have : ¬ i - c = 0 := by omega
      simp [h, h2, this]
    · simp [h, h2]
theorem rm_set {x : Int32} {c i : Nat} (hc : c < 32) : bt (x ||| ((1 : Int32) <<< (nI c &&& 31))) i = (bt x i || decide (i = c)) := by
  by_cases hi : i < 32
  · rw [b_or, rm_one hc hi]
  · rw [b_big (by omega), b_big (by omega), decide_eq_false (by omega)]; rfl
theorem rm_clr {x : Int32} {c i : Nat} (hc : c < 32) : bt (x &&& (((1 : Int32) <<< (nI c &&& 31)) ^^^ (-1))) i = (bt x i && !decide (i = c)) := by
  by_cases hi : i < 32
  · rw [b_and, b_xor, rm_one hc hi, b_m1 i hi, Bool.xor_true]
  · rw [b_big (by omega), b_big (by omega)]; rfl
theorem rm_setclr {x : Int32} {c : Nat} (hc : c < 32) (h : bt x c = false) : (x ||| ((1 : Int32) <<< (nI c &&& 31))) &&& (((1 : Int32) <<< (nI c &&& 31)) ^^^ (-1)) = x := by
  apply b_ext
  intro i hi
  rw [rm_clr hc, rm_set hc]
  by_cases e : i = c
  · subst e; rw [h]; simp
  · simp [e]
theorem rm_below {x : Int32} {c i : Nat} (hc : c < 31) : bt (x &&& (((1 : Int32) <<< (nI c &&& 31)) - 1)) i = (bt x i && decide (i < c)) := by
  have h : ∀ c, c < 31 → ∀ i, i < 32 → bt (((1 : Int32) <<< (nI c &&& 31)) - 1) i = decide (i < c) := by decide +kernel
  by_cases hi : i < 32
  · rw [b_and, h c hc i hi]
  · rw [b_big (by omega), b_big (by omega)]; rfl
end
section
/-! the most pairs of two rows, and the pairs taken -/
def rm_mx (a b : Nat) : Nat := if a ≤ b then b else a
def rm_lc (e : Nat → Nat → Bool) (s t : Nat) : Nat → Nat → Nat
  | 0, _ => 0
  | _ + 1, 0 => 0
  | p + 1, q + 1 => rm_mx (if e (s - (p + 1)) (t - (q + 1)) = true then rm_lc e s t p q + 1 else 0) (rm_mx (rm_lc e s t p (q + 1)) (rm_lc e s t (p + 1) q))
termination_by p q => p + q
def rm_m (e : Nat → Nat → Bool) (s t i j : Nat) : Nat := rm_lc e s t (s - i) (t - j)
theorem rm_m_s {e : Nat → Nat → Bool} {s t i j : Nat} (h : s ≤ i) : rm_m e s t i j = 0 := by
  unfold rm_m
  rw [show s - i = 0 from by omega, rm_lc]
theorem rm_m_t {e : Nat → Nat → Bool} {s t i j : Nat} (h : t ≤ j) : rm_m e s t i j = 0 := by
  unfold rm_m
  rw [show t - j = 0 from by omega]
  cases s - i with
  | zero => rw [rm_lc]
  | succ p => rw [rm_lc]
theorem rm_m_r {e : Nat → Nat → Bool} {s t i j : Nat} (hi : i < s) (hj : j < t) : rm_m e s t i j = rm_mx (if e i j = true then rm_m e s t (i + 1) (j + 1) + 1 else 0) (rm_mx (rm_m e s t (i + 1) j) (rm_m e s t i (j + 1))) := by
  unfold rm_m
  obtain ⟨p, hp⟩ : ∃ p, s - i = p + 1 := ⟨s - i - 1, by omega⟩
  obtain ⟨q, hq⟩ : ∃ q, t - j = q + 1 := ⟨t - j - 1, by omega⟩
  rw [show s - (i + 1) = p from by omega, show t - (j + 1) = q from by omega, hp, hq, rm_lc, show s - (p + 1) = i from by omega, show t - (q + 1) = j from by omega]
theorem rm_mx_l (a b : Nat) : a ≤ rm_mx a b := by unfold rm_mx; split <;> omega
theorem rm_mx_r (a b : Nat) : b ≤ rm_mx a b := by unfold rm_mx; split <;> omega
theorem rm_mx_or (a b : Nat) : rm_mx a b = a ∨ rm_mx a b = b := by unfold rm_mx; split <;> omega
theorem rm_mx_le {a b c : Nat} (ha : a ≤ c) (hb : b ≤ c) : rm_mx a b ≤ c := by unfold rm_mx; split <;> omega
theorem rm_m_le' (e : Nat → Nat → Bool) (s t : Nat) : ∀ n i j : Nat, (s - i) + (t - j) ≤ n → rm_m e s t i j ≤ s - i ∧ rm_m e s t i j ≤ t - j := by
  intro n
  induction n with
  | zero =>
    intro i j h
    rw [rm_m_s (by omega)]; omega
  | succ n ih =>
    intro i j h
    by_cases hi : i < s
    · by_cases hj : j < t
      · rw [rm_m_r hi hj]
        have h1 := ih (i + 1) (j + 1) (by omega)
        have h2 := ih (i + 1) j (by omega)
        have h3 := ih i (j + 1) (by omega)
        have h4 : (if e i j = true then rm_m e s t (i + 1) (j + 1) + 1 else 0) ≤ s - i ∧ (if e i j = true then rm_m e s t (i + 1) (j + 1) + 1 else 0) ≤ t - j := by
          split <;> omega
        exact ⟨rm_mx_le h4.1 (rm_mx_le (by omega) (by omega)), rm_mx_le h4.2 (rm_mx_le (by omega) (by omega))⟩
      · rw [rm_m_t (by omega)]; omega
    · rw [rm_m_s (by omega)]; omega
theorem rm_m_le (e : Nat → Nat → Bool) (s t i j : Nat) : rm_m e s t i j ≤ s - i ∧ rm_m e s t i j ≤ t - j := rm_m_le' e s t _ i j (Nat.le_refl _)
theorem rm_m_dn (e : Nat → Nat → Bool) (s t i j : Nat) : rm_m e s t (i + 1) j ≤ rm_m e s t i j := by
  by_cases hi : i < s
  · by_cases hj : j < t
    · rw [rm_m_r hi hj]
      exact Nat.le_trans (rm_mx_l _ _) (rm_mx_r _ _)
    · rw [rm_m_t (by omega)]; omega
  · rw [rm_m_s (by omega)]; omega
theorem rm_m_rt (e : Nat → Nat → Bool) (s t i j : Nat) : rm_m e s t i (j + 1) ≤ rm_m e s t i j := by
  by_cases hi : i < s
  · by_cases hj : j < t
    · rw [rm_m_r hi hj]
      exact Nat.le_trans (rm_mx_r _ _) (rm_mx_r _ _)
    · rw [rm_m_t (by omega)]; omega
  · rw [rm_m_s (by omega)]; omega
def rm_cd (e : Nat → Nat → Bool) (s t i due j : Nat) : Bool := e i j && decide (rm_m e s t (i + 1) (j + 1) + 1 = due)
theorem rm_cd_iff {e : Nat → Nat → Bool} {s t i due j : Nat} : rm_cd e s t i due j = true ↔ e i j = true ∧ rm_m e s t (i + 1) (j + 1) + 1 = due := by
  unfold rm_cd
  rw [Bool.and_eq_true, decide_eq_true_eq]
theorem rm_ex (e : Nat → Nat → Bool) (s t i : Nat) (hi : i < s) : ∀ n j : Nat, t - j ≤ n → 0 < rm_m e s t i j → (∃ k, j ≤ k ∧ k < t ∧ rm_cd e s t i (rm_m e s t i j) k = true) ∨ rm_m e s t (i + 1) j = rm_m e s t i j := by
  intro n
  induction n with
  | zero =>
    intro j h h0
    rw [rm_m_t (by omega)] at h0; omega
  | succ n ih =>
    intro j h h0
    by_cases hj : j < t
    · have hr := rm_m_r (e := e) hi hj
      by_cases hd : rm_m e s t (i + 1) j = rm_m e s t i j
      · exact Or.inr hd
      · by_cases hw : e i j = true ∧ rm_m e s t (i + 1) (j + 1) + 1 = rm_m e s t i j
        · exact Or.inl ⟨j, Nat.le_refl _, hj, rm_cd_iff.mpr hw⟩
        · have hq : rm_m e s t i (j + 1) = rm_m e s t i j := by
            rcases rm_mx_or (if e i j = true then rm_m e s t (i + 1) (j + 1) + 1 else 0) (rm_mx (rm_m e s t (i + 1) j) (rm_m e s t i (j + 1))) with h1 | h1
            · rw [h1] at hr
              by_cases he : e i j = true
              · rw [if_pos he] at hr
                exact absurd ⟨he, hr.symm⟩ hw
              · rw [if_neg he] at hr; omega
            · rw [h1] at hr
              rcases rm_mx_or (rm_m e s t (i + 1) j) (rm_m e s t i (j + 1)) with h2 | h2
              · rw [h2] at hr; omega
              · rw [h2] at hr; omega
          rcases ih (j + 1) (by omega) (by omega) with ⟨k, hk, hkt, hc⟩ | h3
          · rw [hq] at hc
            exact Or.inl ⟨k, by omega, hkt, hc⟩
          · have := rm_m_rt e s t (i + 1) j
            have := rm_m_dn e s t i j
            omega
    · rw [rm_m_t (by omega)] at h0; omega
def rm_fj (c : Nat → Bool) : Nat → Nat → Option Nat
  | _, 0 => none
  | j, n + 1 => if c j = true then some j else rm_fj c (j + 1) n
theorem rm_fj_none {c : Nat → Bool} : ∀ {n j : Nat}, rm_fj c j n = none → ∀ i, j ≤ i → i < j + n → c i = false := by
  intro n
  induction n with
  | zero => intro j _ i h1 h2; omega
  | succ n ih =>
    intro j h i h1 h2
    rw [rm_fj] at h
    by_cases hc : c j = true
    · rw [if_pos hc] at h; cases h
    · rw [if_neg hc] at h
      by_cases e : i = j
      · subst e; exact Bool.eq_false_iff.mpr hc
      · exact ih h i (by omega) (by omega)
theorem rm_fj_some {c : Nat → Bool} : ∀ {n j k : Nat}, rm_fj c j n = some k → j ≤ k ∧ k < j + n ∧ c k = true ∧ ∀ i, j ≤ i → i < k → c i = false := by
  intro n
  induction n with
  | zero => intro j k h; cases h
  | succ n ih =>
    intro j k h
    rw [rm_fj] at h
    by_cases hc : c j = true
    · rw [if_pos hc] at h
      cases h
      exact ⟨Nat.le_refl _, by omega, hc, fun i h1 h2 => by omega⟩
    · rw [if_neg hc] at h
      obtain ⟨a, b, d, f⟩ := ih h
      refine ⟨by omega, by omega, d, fun i h1 h2 => ?_⟩
      by_cases e : i = j
      · subst e; exact Bool.eq_false_iff.mpr hc
      · exact f i (by omega) h2
theorem rm_none {e : Nat → Nat → Bool} {s t i j : Nat} (hi : i < s) (h : rm_fj (rm_cd e s t i (rm_m e s t i j)) j (t - j) = none) : rm_m e s t (i + 1) j = rm_m e s t i j := by
  have h1 := rm_m_dn e s t i j
  by_cases h0 : 0 < rm_m e s t i j
  · rcases rm_ex e s t i hi _ j (Nat.le_refl _) h0 with ⟨k, a, b, c⟩ | h2
    · rw [rm_fj_none h k a (by omega)] at c; cases c
    · exact h2
  · omega
def rm_prs (e : Nat → Nat → Bool) (s t : Nat) : Nat → Nat → Nat → Nat → List (Nat × Nat)
  | 0, _, _, _ => []
  | n + 1, i, j, due => match rm_fj (rm_cd e s t i due) j (t - j) with
    | none => rm_prs e s t n (i + 1) j due
    | some k => (i, k) :: rm_prs e s t n (i + 1) (k + 1) (due - 1)
theorem rm_prs_n {e : Nat → Nat → Bool} {s t n i j due : Nat} (h : rm_fj (rm_cd e s t i due) j (t - j) = none) : rm_prs e s t (n + 1) i j due = rm_prs e s t n (i + 1) j due := by
  rw [rm_prs, h]
theorem rm_prs_s {e : Nat → Nat → Bool} {s t n i j due k : Nat} (h : rm_fj (rm_cd e s t i due) j (t - j) = some k) : rm_prs e s t (n + 1) i j due = (i, k) :: rm_prs e s t n (i + 1) (k + 1) (due - 1) := by
  rw [rm_prs, h]
theorem rm_prs_len (e : Nat → Nat → Bool) (s t : Nat) : ∀ n i j : Nat, i + n = s → (rm_prs e s t n i j (rm_m e s t i j)).length = rm_m e s t i j := by
  intro n
  induction n with
  | zero => intro i j h; rw [rm_m_s (by omega)]; rfl
  | succ n ih =>
    intro i j h
    cases hf : rm_fj (rm_cd e s t i (rm_m e s t i j)) j (t - j) with
    | none =>
      rw [rm_prs_n hf, ← rm_none (by omega) hf]
      exact ih (i + 1) j (by omega)
    | some k =>
      obtain ⟨_, _, hc, _⟩ := rm_fj_some hf
      have h2 := (rm_cd_iff.mp hc).2
      rw [rm_prs_s hf, List.length_cons, show rm_m e s t i j - 1 = rm_m e s t (i + 1) (k + 1) from by omega, ih (i + 1) (k + 1) (by omega), h2]
theorem rm_prs_head (e : Nat → Nat → Bool) (s t : Nat) : ∀ n i j : Nat, i + n = s → 0 < rm_m e s t i j → ∃ a b, i ≤ a ∧ a < s ∧ j ≤ b ∧ b < t ∧ (∀ i', i ≤ i' → i' < a → rm_fj (rm_cd e s t i' (rm_m e s t i j)) j (t - j) = none) ∧ rm_fj (rm_cd e s t a (rm_m e s t i j)) j (t - j) = some b ∧ rm_m e s t (a + 1) (b + 1) + 1 = rm_m e s t i j ∧ rm_prs e s t n i j (rm_m e s t i j) = (a, b) :: rm_prs e s t (s - (a + 1)) (a + 1) (b + 1) (rm_m e s t (a + 1) (b + 1)) := by
  intro n
  induction n with
  | zero => intro i j h h0; rw [rm_m_s (by omega)] at h0; omega
  | succ n ih =>
    intro i j h h0
    cases hf : rm_fj (rm_cd e s t i (rm_m e s t i j)) j (t - j) with
    | none =>
      have h3 := rm_none (by omega) hf
      obtain ⟨a, b, h4, h5, h6, h7, h8, h9, h10, h11⟩ := ih (i + 1) j (by omega) (by omega)
      rw [h3] at h8 h9 h10 h11
      refine ⟨a, b, by omega, h5, h6, h7, fun i' h12 h13 => ?_, h9, h10, ?_⟩
      · by_cases e : i' = i
        · subst e; exact hf
        · exact h8 i' (by omega) h13
      · rw [rm_prs_n hf]; exact h11
    | some k =>
      obtain ⟨h4, h5, hc, _⟩ := rm_fj_some hf
      have h2 := (rm_cd_iff.mp hc).2
      refine ⟨i, k, Nat.le_refl _, by omega, h4, by omega, fun i' h12 h13 => by omega, hf, h2, ?_⟩
      rw [rm_prs_s hf, show rm_m e s t i j - 1 = rm_m e s t (i + 1) (k + 1) from by omega, show s - (i + 1) = n from by omega]
def rm_inc (s t : Nat) : Nat → Nat → List (Nat × Nat) → Prop
  | _, _, [] => True
  | i, j, p :: R => i ≤ p.1 ∧ p.1 < s ∧ j ≤ p.2 ∧ p.2 < t ∧ rm_inc s t (p.1 + 1) (p.2 + 1) R
theorem rm_inc_mono {s t i j i' : Nat} {R : List (Nat × Nat)} (h : i' ≤ i) (hR : rm_inc s t i j R) : rm_inc s t i' j R := by
  cases R with
  | nil => trivial
  | cons p R => exact ⟨Nat.le_trans h hR.1, hR.2⟩
theorem rm_prs_inc (e : Nat → Nat → Bool) (s t : Nat) : ∀ n i j due : Nat, i + n = s → rm_inc s t i j (rm_prs e s t n i j due) := by
  intro n
  induction n with
  | zero => intro i j due h; trivial
  | succ n ih =>
    intro i j due h
    cases hf : rm_fj (rm_cd e s t i due) j (t - j) with
    | none =>
      rw [rm_prs_n hf]
      exact rm_inc_mono (Nat.le_succ i) (ih (i + 1) j due (by omega))
    | some k =>
      obtain ⟨h4, h5, hc, _⟩ := rm_fj_some hf
      rw [rm_prs_s hf]
      exact ⟨Nat.le_refl _, by omega, h4, by omega, ih (i + 1) (k + 1) (due - 1) (by omega)⟩
end
section
/-! changes as ghosts: (before, behind, first put, puts, taken); what holds of them and of a room's row W with the held set h -/
abbrev rm_Ch : Type := Nat × Nat × Nat × Nat × List Nat
def rm_cB (x : rm_Ch) : Nat := x.1
def rm_cE (x : rm_Ch) : Nat := x.2.1
def rm_cF (x : rm_Ch) : Nat := x.2.2.1
def rm_cN (x : rm_Ch) : Nat := x.2.2.2.1
def rm_cT (x : rm_Ch) : List Nat := x.2.2.2.2
def rm_cP (x : rm_Ch) : List Nat := List.range' (rm_cF x) (rm_cN x)
def rm_af (u v : Nat) (x : rm_Ch) : Bool := rm_adj u v (rm_cB x) (rm_cP x ++ [rm_cE x])
def rm_C1 (U : Nat) (CH : Nat → rm_Ch) (nd : Nat → Int32) (c : Nat) : Prop :=
  rm_cF (CH c) + rm_cN (CH c) ≤ U ∧ (∀ d, d < c → rm_cF (CH d) + rm_cN (CH d) ≤ rm_cF (CH c)) ∧ rm_cN (CH c) ≤ 20 ∧ (rm_cT (CH c)).length ≤ 20 ∧ (rm_cT (CH c)).Nodup ∧
  (rm_cB (CH c) = 60 ∨ ∃ m, bt (nd c) m = true ∧ rm_cB (CH c) ∈ rm_cP (CH m)) ∧ (rm_cE (CH c) = 61 ∨ ∃ m, bt (nd c) m = true ∧ rm_cE (CH c) ∈ rm_cP (CH m)) ∧ (∀ L, L ∈ rm_cT (CH c) → ∃ m, bt (nd c) m = true ∧ L ∈ rm_cP (CH m)) ∧
  (∀ d, bt (nd c) d = true → d < c) ∧ (∀ d e, bt (nd c) d = true → bt (nd d) e = true → bt (nd c) e = true) ∧
  (∀ u v, rm_adj u v (rm_cB (CH c)) (rm_cT (CH c) ++ [rm_cE (CH c)]) = true → (u = 60 ∧ v = 61) ∨ ∃ m, bt (nd c) m = true ∧ rm_af u v (CH m) = true)
def rm_CI (U M : Nat) (CH : Nat → rm_Ch) (nd : Nat → Int32) : Prop := ∀ c, c < M → rm_C1 U CH nd c
def rm_RI (M : Nat) (CH : Nat → rm_Ch) (nd : Nat → Int32) (W : List Nat) (h : Int32) : Prop :=
  W.Nodup ∧ (∀ c, bt h c = true → c < M) ∧ (∀ c d, bt h c = true → bt (nd c) d = true → bt h d = true) ∧
  (∀ u v, rm_adj u v 60 (W ++ [61]) = true → (u = 60 ∧ v = 61) ∨ ∃ m, bt h m = true ∧ rm_af u v (CH m) = true) ∧
  (∀ L, L ∈ W → ∃ m, bt h m = true ∧ L ∈ rm_cP (CH m)) ∧ (∀ c L, bt h c = true → L ∈ rm_cT (CH c) → L ∉ W) ∧
  (∀ c d L, bt h c = true → bt h d = true → L ∈ rm_cT (CH c) → L ∈ rm_cT (CH d) → c = d)
theorem rm_P_mem {x : rm_Ch} {L : Nat} : L ∈ rm_cP x ↔ rm_cF x ≤ L ∧ L < rm_cF x + rm_cN x := by
  unfold rm_cP
  rw [List.mem_range'_1]
theorem rm_P_lt {U M : Nat} {CH : Nat → rm_Ch} {nd : Nat → Int32} (hC : rm_CI U M CH nd) {c L : Nat} (hc : c < M) (h : L ∈ rm_cP (CH c)) : L < U := by
  have := (hC c hc).1
  have := rm_P_mem.mp h
  omega
theorem rm_P_dis {U M : Nat} {CH : Nat → rm_Ch} {nd : Nat → Int32} (hC : rm_CI U M CH nd) {c d L : Nat} (hc : c < M) (hd : d < M) (h1 : L ∈ rm_cP (CH c)) (h2 : L ∈ rm_cP (CH d)) : c = d := by
  have a1 := rm_P_mem.mp h1
  have a2 := rm_P_mem.mp h2
  rcases Nat.lt_trichotomy c d with h | h | h
  · have := (hC d hd).2.1 c h; omega
  · exact h
  · have := (hC c hc).2.1 d h; omega
theorem rm_W_lt {U M : Nat} {CH : Nat → rm_Ch} {nd : Nat → Int32} (hC : rm_CI U M CH nd) {W : List Nat} {h : Int32} (hR : rm_RI M CH nd W h) {L : Nat} (hL : L ∈ W) : L < U := by
  obtain ⟨m, hm, hp⟩ := hR.2.2.2.2.1 L hL
  exact rm_P_lt hC (hR.2.1 m hm) hp
theorem rm_FFnd {W : List Nat} (hn : W.Nodup) (h : ∀ L, L ∈ W → L < 60) : (rm_FF W).Nodup := by
  unfold rm_FF
  rw [List.nodup_cons, List.nodup_append]
  refine ⟨?_, hn, by simp, ?_⟩
  · intro hm
    rcases List.mem_append.mp hm with hm | hm
    · have := h _ hm; omega
    · simp at hm
  · intro a ha b hb e
    have := h a ha
    have hb' : b = 61 := by simpa using hb
    omega
theorem rm_adj_meml {u v x e : Nat} {l : List Nat} (h : rm_adj u v x (l ++ [e]) = true) : u ∈ x :: l := by
  induction l generalizing x with
  | nil =>
    rcases rm_adj_cons h with ⟨rfl, _⟩ | h
    · exact List.mem_cons_self
    · exact absurd h (by simp [rm_adj])
  | cons y l ih =>
    rcases rm_adj_cons h with ⟨rfl, _⟩ | h
    · exact List.mem_cons_self
    · exact List.mem_cons_of_mem _ (ih h)
section
variable {U M c : Nat} {CH : Nat → rm_Ch} {nd : Nat → Int32} {w1 w2 : List Nat} {h : Int32}
theorem rm_apply (hC : rm_CI U M CH nd) (hM : M ≤ 16) (hc : c < M) (hR : rm_RI M CH nd (w1 ++ (rm_cT (CH c) ++ w2)) h) (hn : bt h c = false) (hN : ∀ d, bt (nd c) d = true → bt h d = true) (hB : rm_lst 60 w1 = rm_cB (CH c)) (hE : rm_hdd 61 w2 = rm_cE (CH c)) :
    rm_RI M CH nd (w1 ++ (rm_cP (CH c) ++ w2)) (h ||| ((1 : Int32) <<< (nI c &&& 31))) := by
  obtain ⟨r1, r2, r3, r4, r5, r6, r7⟩ := hR
  have hb : ∀ i, bt (h ||| ((1 : Int32) <<< (nI c &&& 31))) i = true ↔ bt h i = true ∨ i = c := by
    intro i
    rw [rm_set (by omega), Bool.or_eq_true, decide_eq_true_eq]
  obtain ⟨c1, c2, c3, c4, c5, c6, c7, c8, c9, c10, c11⟩ := hC c hc
  have hnc : ∀ m, bt h m = true → m ≠ c := by
    intro m hm e
    subst e
    rw [hn] at hm; cases hm
  have hPf : ∀ L, L ∈ rm_cP (CH c) → L ∉ w1 ++ (rm_cT (CH c) ++ w2) := by
    intro L hL hW
    obtain ⟨m, hm, hp⟩ := r5 L hW
    exact hnc m hm (rm_P_dis hC (r2 m hm) hc hp hL)
  have s1 : ∀ L, L ∈ w1 → L ∈ w1 ++ (rm_cT (CH c) ++ w2) := fun L h => List.mem_append_left _ h
  have s2 : ∀ L, L ∈ w2 → L ∈ w1 ++ (rm_cT (CH c) ++ w2) := fun L h => List.mem_append_right _ (List.mem_append_right _ h)
  have s3 : ∀ L, L ∈ rm_cT (CH c) → L ∈ w1 ++ (rm_cT (CH c) ++ w2) := fun L h => List.mem_append_right _ (List.mem_append_left _ h)
  have hcases : ∀ L, L ∈ w1 ++ (rm_cP (CH c) ++ w2) → L ∈ w1 ∨ L ∈ rm_cP (CH c) ∨ L ∈ w2 := by
    intro L hL
    rcases List.mem_append.mp hL with a | a
    · exact Or.inl a
    · exact Or.inr (List.mem_append.mp a)
  rw [List.nodup_append, List.nodup_append] at r1
  obtain ⟨n1, ⟨n2, n3, n4⟩, n5⟩ := r1
  refine ⟨?_, ?_, ?_, ?_, ?_, ?_, ?_⟩
  · rw [List.nodup_append, List.nodup_append]
    refine ⟨n1, ⟨List.nodup_range', n3, ?_⟩, ?_⟩
    · intro a ha b hb e
      subst e
      exact hPf a ha (s2 a hb)
    · intro a ha b hb e
      subst e
      rcases List.mem_append.mp hb with hb | hb
      · exact hPf a hb (s1 a ha)
      · exact n5 a ha a (List.mem_append_right _ hb) rfl
  · intro i hi
    rcases (hb i).mp hi with hi | rfl
    · exact r2 i hi
    · exact hc
  · intro i d hi hd
    rw [hb]
    rcases (hb i).mp hi with hi | rfl
    · exact Or.inl (r3 i d hi hd)
    · exact Or.inl (hN d hd)
  · intro u v huv
    rw [rm_adj3, Bool.or_eq_true, Bool.or_eq_true] at huv
    have old : rm_adj u v 60 ((w1 ++ (rm_cT (CH c) ++ w2)) ++ [61]) = true → (u = 60 ∧ v = 61) ∨ ∃ m, bt (h ||| ((1 : Int32) <<< (nI c &&& 31))) m = true ∧ rm_af u v (CH m) = true := by
      intro ho
      rcases r4 u v ho with e | ⟨m, hm, ha⟩
      · exact Or.inl e
      · exact Or.inr ⟨m, (hb m).mpr (Or.inl hm), ha⟩
    rcases huv with a | a | a
    · apply old
      rw [rm_adj3, a, Bool.true_or]
    · refine Or.inr ⟨c, (hb c).mpr (Or.inr rfl), ?_⟩
      rw [hB, hE] at a
      exact a
    · apply old
      rw [rm_adj3, a, Bool.or_true, Bool.or_true]
  · intro L hL
    rcases hcases L hL with a | a | a
    · obtain ⟨m, hm, hp⟩ := r5 L (s1 L a)
      exact ⟨m, (hb m).mpr (Or.inl hm), hp⟩
    · exact ⟨c, (hb c).mpr (Or.inr rfl), a⟩
    · obtain ⟨m, hm, hp⟩ := r5 L (s2 L a)
      exact ⟨m, (hb m).mpr (Or.inl hm), hp⟩
  · intro d L hd hT hL
    rcases (hb d).mp hd with hd | e
    · rcases hcases L hL with a | a | a
      · exact r6 d L hd hT (s1 L a)
      · obtain ⟨m, hm, hp⟩ := (hC d (r2 d hd)).2.2.2.2.2.2.2.1 L hT
        have hmh := r3 d m hd hm
        exact hnc m hmh (rm_P_dis hC (r2 m hmh) hc hp a)
      · exact r6 d L hd hT (s2 L a)
    · subst e
      rcases hcases L hL with a | a | a
      · exact n5 L a L (List.mem_append_left _ hT) rfl
      · exact hPf L a (s3 L hT)
      · exact n4 L hT L a rfl
  · intro d e L hd he h1 h2
    rcases (hb d).mp hd with hd1 | e1
    · rcases (hb e).mp he with he1 | e2
      · exact r7 d e L hd1 he1 h1 h2
      · rw [e2] at h2
        exact absurd (s3 L h2) (r6 d L hd1 h1)
    · rcases (hb e).mp he with he1 | e2
      · rw [e1] at h1
        exact absurd (s3 L h1) (r6 e L he1 h2)
      · exact e1.trans e2.symm
theorem rm_unapply (hC : rm_CI U M CH nd) (hU : U ≤ 60) (hM : M ≤ 16) (hc : c < M) (hR : rm_RI M CH nd (w1 ++ (rm_cP (CH c) ++ w2)) h) (hh : bt h c = true) (hf : ∀ d, bt h d = true → bt (nd d) c = false) (hB : rm_lst 60 w1 = rm_cB (CH c)) (hE : rm_hdd 61 w2 = rm_cE (CH c)) :
    rm_RI M CH nd (w1 ++ (rm_cT (CH c) ++ w2)) (h &&& (((1 : Int32) <<< (nI c &&& 31)) ^^^ (-1))) := by
  have hlt : ∀ L, L ∈ w1 ++ (rm_cP (CH c) ++ w2) → L < 60 := fun L hL => Nat.lt_of_lt_of_le (rm_W_lt hC hR hL) hU
  obtain ⟨r1, r2, r3, r4, r5, r6, r7⟩ := hR
  have hb : ∀ i, bt (h &&& (((1 : Int32) <<< (nI c &&& 31)) ^^^ (-1))) i = true ↔ bt h i = true ∧ i ≠ c := by
    intro i
    rw [rm_clr (by omega), Bool.and_eq_true, Bool.not_eq_true', decide_eq_false_iff_not]
  obtain ⟨c1, c2, c3, c4, c5, c6, c7, c8, c9, c10, c11⟩ := hC c hc
  have s1 : ∀ L, L ∈ w1 → L ∈ w1 ++ (rm_cP (CH c) ++ w2) := fun L h => List.mem_append_left _ h
  have s2 : ∀ L, L ∈ w2 → L ∈ w1 ++ (rm_cP (CH c) ++ w2) := fun L h => List.mem_append_right _ (List.mem_append_right _ h)
  have s3 : ∀ L, L ∈ rm_cP (CH c) → L ∈ w1 ++ (rm_cP (CH c) ++ w2) := fun L h => List.mem_append_right _ (List.mem_append_left _ h)
  have hcases : ∀ L, L ∈ w1 ++ (rm_cT (CH c) ++ w2) → L ∈ w1 ∨ L ∈ rm_cT (CH c) ∨ L ∈ w2 := by
    intro L hL
    rcases List.mem_append.mp hL with a | a
    · exact Or.inl a
    · exact Or.inr (List.mem_append.mp a)
  have hFF := rm_FFnd r1 hlt
  rw [rm_FF3, List.nodup_append] at hFF
  obtain ⟨f1, f2, f3⟩ := hFF
  have f2' := f2
  rw [List.nodup_append] at f2'
  obtain ⟨f4, f5, f6⟩ := f2'
  rw [List.nodup_append, List.nodup_append] at r1
  obtain ⟨n1, ⟨n2, n3, n4⟩, n5⟩ := r1
  have hBm : rm_cB (CH c) ∈ 60 :: w1 := by rw [← hB]; exact rm_lst_mem _ _
  refine ⟨?_, ?_, ?_, ?_, ?_, ?_, ?_⟩
  · rw [List.nodup_append, List.nodup_append]
    refine ⟨n1, ⟨c5, n3, ?_⟩, ?_⟩
    · intro a ha b hb2 e
      subst e
      exact r6 c a hh ha (s2 a hb2)
    · intro a ha b hb2 e
      subst e
      rcases List.mem_append.mp hb2 with hb2 | hb2
      · exact r6 c a hh hb2 (s1 a ha)
      · exact n5 a ha a (List.mem_append_right _ hb2) rfl
  · intro i hi
    exact r2 i ((hb i).mp hi).1
  · intro i d hi hd
    have hi' := (hb i).mp hi
    refine (hb d).mpr ⟨r3 i d hi'.1 hd, ?_⟩
    intro e
    subst e
    rw [hf i hi'.1] at hd; cases hd
  · intro u v huv
    rw [rm_adj3, Bool.or_eq_true, Bool.or_eq_true] at huv
    have old : rm_adj u v 60 ((w1 ++ (rm_cP (CH c) ++ w2)) ++ [61]) = true → ¬ (u ∈ rm_cB (CH c) :: rm_cP (CH c)) → (u = 60 ∧ v = 61) ∨ ∃ m, bt (h &&& (((1 : Int32) <<< (nI c &&& 31)) ^^^ (-1))) m = true ∧ rm_af u v (CH m) = true := by
      intro ho hu
      rcases r4 u v ho with e | ⟨m, hm, ha⟩
      · exact Or.inl e
      · refine Or.inr ⟨m, (hb m).mpr ⟨hm, ?_⟩, ha⟩
        intro e
        subst e
        exact hu (rm_adj_meml ha)
    rcases huv with a | a | a
    · apply old
      · rw [rm_adj3, a, Bool.true_or]
      · intro hu
        have hu1 := (rm_adj_mem a).1
        have hu2 := rm_adj_ne f1 a
        rw [hB] at hu2
        rcases List.mem_cons.mp hu with e | e
        · exact hu2 e
        · exact f3 u hu1 u (List.mem_append_left _ e) rfl
    · rw [hB, hE] at a
      rcases c11 u v a with e | ⟨m, hm, ha⟩
      · exact Or.inl e
      · refine Or.inr ⟨m, (hb m).mpr ⟨r3 c m hh hm, ?_⟩, ha⟩
        have := c9 m hm
        omega
    · apply old
      · rw [rm_adj3, a, Bool.or_true, Bool.or_true]
      · intro hu
        have hu1 : u ∈ w2 ++ [61] := by rw [rm_tail 61 w2]; exact (rm_adj_mem a).1
        rcases List.mem_cons.mp hu with e | e
        · rw [e] at hu1
          exact f3 _ hBm _ (List.mem_append_right _ hu1) rfl
        · exact f6 u e u hu1 rfl
  · intro L hL
    have go : ∀ m, bt h m = true → L ∈ rm_cP (CH m) → L ∉ rm_cP (CH c) → ∃ m, bt (h &&& (((1 : Int32) <<< (nI c &&& 31)) ^^^ (-1))) m = true ∧ L ∈ rm_cP (CH m) := by
      intro m hm hp hq
      refine ⟨m, (hb m).mpr ⟨hm, ?_⟩, hp⟩
      intro e
      subst e
      exact hq hp
    rcases hcases L hL with a | a | a
    · obtain ⟨m, hm, hp⟩ := r5 L (s1 L a)
      exact go m hm hp (fun q => n5 L a L (List.mem_append_left _ q) rfl)
    · obtain ⟨m, hm, hp⟩ := c8 L a
      refine ⟨m, (hb m).mpr ⟨r3 c m hh hm, ?_⟩, hp⟩
      have := c9 m hm
      omega
    · obtain ⟨m, hm, hp⟩ := r5 L (s2 L a)
      exact go m hm hp (fun q => n4 L q L a rfl)
  · intro d L hd hT hL
    have hd' := (hb d).mp hd
    rcases hcases L hL with a | a | a
    · exact r6 d L hd'.1 hT (s1 L a)
    · exact hd'.2 (r7 d c L hd'.1 hh hT a)
    · exact r6 d L hd'.1 hT (s2 L a)
  · intro d e L hd he h1 h2
    exact r7 d e L ((hb d).mp hd).1 ((hb e).mp he).1 h1 h2
end
end
section
/-! a new change: what it needs, and that everything stands with it -/
def rm_mk (CH : Nat → rm_Ch) (h : Int32) (u v : Nat) : Nat → Option Nat
  | 0 => none
  | n + 1 => if (bt h n && rm_af u v (CH n)) = true then some n else rm_mk CH h u v n
theorem rm_mk_some {CH : Nat → rm_Ch} {h : Int32} {u v : Nat} : ∀ {n m : Nat}, rm_mk CH h u v n = some m → m < n ∧ bt h m = true ∧ rm_af u v (CH m) = true := by
  intro n
  induction n with
  | zero => intro m h; cases h
  | succ n ih =>
    intro m hm
    rw [rm_mk] at hm
    by_cases hc : (bt h n && rm_af u v (CH n)) = true
    · rw [if_pos hc] at hm
      cases hm
      rw [Bool.and_eq_true] at hc
      exact ⟨Nat.lt_succ_self _, hc.1, hc.2⟩
    · rw [if_neg hc] at hm
      obtain ⟨a, b, c⟩ := ih hm
      exact ⟨by omega, b, c⟩
theorem rm_mk_none {CH : Nat → rm_Ch} {h : Int32} {u v : Nat} : ∀ {n : Nat}, rm_mk CH h u v n = none → ∀ m, m < n → bt h m = true → rm_af u v (CH m) = true → False := by
  intro n
  induction n with
  | zero => intro _ m hm; omega
  | succ n ih =>
    intro hn m hm hb ha
    rw [rm_mk] at hn
    by_cases hc : (bt h n && rm_af u v (CH n)) = true
    · rw [if_pos hc] at hn; cases hn
    · rw [if_neg hc] at hn
      by_cases e : m = n
      · subst e
        rw [hb, ha] at hc
        exact hc rfl
      · exact ih hn m (by omega) hb ha
/-- one more maker among the needed -/
def rm_ad (nd : Nat → Int32) (acc : Int32) : Option Nat → Int32
  | none => acc
  | some d => acc ||| (nd d ||| ((1 : Int32) <<< (nI d &&& 31)))
def rm_nv (nd : Nat → Int32) (mk : Nat → Nat → Option Nat) : Int32 → Nat → List Nat → Int32
  | acc, _, [] => acc
  | acc, x, y :: l => rm_nv nd mk (rm_ad nd acc (mk x y)) y l
theorem rm_nv_bit {nd : Nat → Int32} {mk : Nat → Nat → Option Nat} (hm : ∀ u v d, mk u v = some d → d < 16) (i : Nat) : ∀ (l : List Nat) (acc : Int32) (x : Nat), bt (rm_nv nd mk acc x l) i = true ↔ bt acc i = true ∨ ∃ u v d, rm_adj u v x l = true ∧ mk u v = some d ∧ (i = d ∨ bt (nd d) i = true) := by
  intro l
  induction l with
  | nil =>
    intro acc x
    constructor
    · intro h; exact Or.inl h
    · intro h
      rcases h with h | ⟨u, v, d, h, _⟩
      · exact h
      · exact absurd h (by simp [rm_adj])
  | cons y l ih =>
    intro acc x
    show bt (rm_nv nd mk (rm_ad nd acc (mk x y)) y l) i = true ↔ _
    rw [ih]
    constructor
    · intro h
      rcases h with h | ⟨u, v, d, h1, h2, h3⟩
      · cases hk : mk x y with
        | none => rw [hk] at h; exact Or.inl h
        | some d =>
          rw [hk] at h
          have h' : bt (acc ||| (nd d ||| ((1 : Int32) <<< (nI d &&& 31)))) i = true := h
          rw [b_or, rm_set (Nat.lt_of_lt_of_le (hm _ _ _ hk) (by decide)), Bool.or_eq_true, Bool.or_eq_true, decide_eq_true_eq] at h'
          rcases h' with h' | h' | h'
          · exact Or.inl h'
          · exact Or.inr ⟨x, y, d, rm_adj_c1, hk, Or.inr h'⟩
          · exact Or.inr ⟨x, y, d, rm_adj_c1, hk, Or.inl h'⟩
      · exact Or.inr ⟨u, v, d, rm_adj_c2 h1, h2, h3⟩
    · intro h
      rcases h with h | ⟨u, v, d, h1, h2, h3⟩
      · refine Or.inl ?_
        cases hk : mk x y with
        | none => exact h
        | some d =>
          show bt (acc ||| (nd d ||| ((1 : Int32) <<< (nI d &&& 31)))) i = true
          rw [b_or, h, Bool.true_or]
      · rcases rm_adj_cons h1 with ⟨rfl, rfl⟩ | h1
        · refine Or.inl ?_
          rw [h2]
          show bt (acc ||| (nd d ||| ((1 : Int32) <<< (nI d &&& 31)))) i = true
          rw [b_or, rm_set (Nat.lt_of_lt_of_le (hm _ _ _ h2) (by decide)), Bool.or_eq_true, Bool.or_eq_true, decide_eq_true_eq]
          exact Or.inr h3.symm
        · exact Or.inr ⟨u, v, d, h1, h2, h3⟩
def rm_up (CH : Nat → rm_Ch) (M : Nat) (x : rm_Ch) : Nat → rm_Ch := fun c => if c = M then x else CH c
theorem rm_up_s {CH : Nat → rm_Ch} {M : Nat} {x : rm_Ch} : rm_up CH M x M = x := if_pos rfl
theorem rm_up_n {CH : Nat → rm_Ch} {M c : Nat} {x : rm_Ch} (h : c ≠ M) : rm_up CH M x c = CH c := if_neg h
theorem rm_C1_congr {U U' M c : Nat} {CH CH' : Nat → rm_Ch} {nd nd' : Nat → Int32} (hc : c < M) (hU : U ≤ U') (e1 : ∀ c, c < M → CH' c = CH c) (e2 : ∀ c, c < M → nd' c = nd c) (h : rm_C1 U CH nd c) : rm_C1 U' CH' nd' c := by
  obtain ⟨c1, c2, c3, c4, c5, c6, c7, c8, c9, c10, c11⟩ := h
  unfold rm_C1
  rw [e1 c hc, e2 c hc]
  refine ⟨by omega, fun d hd => by rw [e1 d (by omega)]; exact c2 d hd, c3, c4, c5, ?_, ?_, ?_, c9, ?_, ?_⟩
  · rcases c6 with a | ⟨m, hm, hp⟩
    · exact Or.inl a
    · have := c9 m hm
      exact Or.inr ⟨m, hm, by rw [e1 m (by omega)]; exact hp⟩
  · rcases c7 with a | ⟨m, hm, hp⟩
    · exact Or.inl a
    · have := c9 m hm
      exact Or.inr ⟨m, hm, by rw [e1 m (by omega)]; exact hp⟩
  · intro L hL
    obtain ⟨m, hm, hp⟩ := c8 L hL
    have := c9 m hm
    exact ⟨m, hm, by rw [e1 m (by omega)]; exact hp⟩
  · intro d e hd he
    have := c9 d hd
    rw [e2 d (by omega)] at he
    exact c10 d e hd he
  · intro u v huv
    rcases c11 u v huv with a | ⟨m, hm, hp⟩
    · exact Or.inl a
    · have := c9 m hm
      exact Or.inr ⟨m, hm, by rw [e1 m (by omega)]; exact hp⟩
theorem rm_RI_congr {M M' : Nat} {CH CH' : Nat → rm_Ch} {nd nd' : Nat → Int32} {W : List Nat} {h : Int32} (hM : M ≤ M') (e1 : ∀ c, c < M → CH' c = CH c) (e2 : ∀ c, c < M → nd' c = nd c) (hR : rm_RI M CH nd W h) : rm_RI M' CH' nd' W h := by
  obtain ⟨r1, r2, r3, r4, r5, r6, r7⟩ := hR
  refine ⟨r1, fun c hc => Nat.lt_of_lt_of_le (r2 c hc) hM, ?_, ?_, ?_, ?_, ?_⟩
  · intro c d hc hd
    rw [e2 c (r2 c hc)] at hd
    exact r3 c d hc hd
  · intro u v huv
    rcases r4 u v huv with a | ⟨m, hm, hp⟩
    · exact Or.inl a
    · exact Or.inr ⟨m, hm, by rw [e1 m (r2 m hm)]; exact hp⟩
  · intro L hL
    obtain ⟨m, hm, hp⟩ := r5 L hL
    exact ⟨m, hm, by rw [e1 m (r2 m hm)]; exact hp⟩
  · intro c L hc hT
    rw [e1 c (r2 c hc)] at hT
    exact r6 c L hc hT
  · intro c d L hc hd h1 h2
    rw [e1 c (r2 c hc)] at h1
    rw [e1 d (r2 d hd)] at h2
    exact r7 c d L hc hd h1 h2
theorem rm_src {U M d u v L : Nat} {CH : Nat → rm_Ch} {nd : Nat → Int32} (hC : rm_CI U M CH nd) (hd : d < M) (ha : rm_af u v (CH d) = true) (hL : L = u ∨ L = v) (h0 : L ≠ 60) (h1 : L ≠ 61) : ∃ m, (m = d ∨ bt (nd d) m = true) ∧ L ∈ rm_cP (CH m) := by
  obtain ⟨c1, c2, c3, c4, c5, c6, c7, c8, c9, c10, c11⟩ := hC d hd
  have hm : L = rm_cB (CH d) ∨ L = rm_cE (CH d) ∨ L ∈ rm_cP (CH d) := by
    rcases hL with rfl | rfl
    · rcases List.mem_cons.mp (rm_adj_meml ha) with a | a
      · exact Or.inl a
      · exact Or.inr (Or.inr a)
    · rcases List.mem_append.mp (rm_adj_mem ha).2 with a | a
      · exact Or.inr (Or.inr a)
      · exact Or.inr (Or.inl (by simpa using a))
  rcases hm with a | a | a
  · rcases c6 with b | ⟨m, hm, hp⟩
    · omega
    · exact ⟨m, Or.inr hm, by rw [a]; exact hp⟩
  · rcases c7 with b | ⟨m, hm, hp⟩
    · omega
    · exact ⟨m, Or.inr hm, by rw [a]; exact hp⟩
  · exact ⟨d, Or.inl rfl, a⟩
/-- what a new change needs -/
def rm_need (CH : Nat → rm_Ch) (nd : Nat → Int32) (h : Int32) (M B : Nat) (l : List Nat) : Int32 := rm_nv nd (fun u v => rm_mk CH h u v M) 0 B l
section
variable {U M p : Nat} {CH : Nat → rm_Ch} {nd : Nat → Int32} {w1 T w2 : List Nat} {h : Int32}
theorem rm_need_bit (hM : M ≤ 16) (B : Nat) (l : List Nat) (i : Nat) : bt (rm_need CH nd h M B l) i = true ↔ ∃ u v d, rm_adj u v B l = true ∧ rm_mk CH h u v M = some d ∧ (i = d ∨ bt (nd d) i = true) := by
  unfold rm_need
  rw [rm_nv_bit (fun u v d hd => Nat.lt_of_lt_of_le (rm_mk_some hd).1 hM)]
  rw [b_0]
  constructor
  · intro h
    rcases h with h | h
    · cases h
    · exact h
  · intro h; exact Or.inr h
theorem rm_need_held (hM : M ≤ 16) (hR : rm_RI M CH nd (w1 ++ (T ++ w2)) h) (B : Nat) (l : List Nat) (i : Nat) (hi : bt (rm_need CH nd h M B l) i = true) : bt h i = true := by
  obtain ⟨u, v, d, _, hk, hd⟩ := (rm_need_bit hM B l i).mp hi
  obtain ⟨_, hb, _⟩ := rm_mk_some hk
  rcases hd with rfl | hd
  · exact hb
  · exact hR.2.2.1 d i hb hd
theorem rm_record (hC : rm_CI U M CH nd) (hU : U ≤ 60) (hM : M < 16) (hR : rm_RI M CH nd (w1 ++ (T ++ w2)) h) (hp : p ≤ 20) (hT : T.length ≤ 20) :
    rm_CI (U + p) (M + 1) (rm_up CH M (rm_lst 60 w1, rm_hdd 61 w2, U, p, T)) (upd nd M (rm_need CH nd h M (rm_lst 60 w1) (T ++ [rm_hdd 61 w2]))) := by
  have hlt : ∀ L, L ∈ w1 ++ (T ++ w2) → L < 60 := fun L hL => Nat.lt_of_lt_of_le (rm_W_lt hC hR hL) hU
  have e1 : ∀ c, c < M → rm_up CH M (rm_lst 60 w1, rm_hdd 61 w2, U, p, T) c = CH c := fun c hc => rm_up_n (by omega)
  have e2 : ∀ c, c < M → upd nd M (rm_need CH nd h M (rm_lst 60 w1) (T ++ [rm_hdd 61 w2])) c = nd c := fun c hc => pk_un (by omega)
  intro c hc
  by_cases hcM : c < M
  · exact rm_C1_congr hcM (by omega) e1 e2 (hC c hcM)
  · have : c = M := by omega
    subst this
    obtain ⟨r1, r2, r3, r4, r5, r6, r7⟩ := hR
    have hbit := rm_need_bit (CH := CH) (nd := nd) (h := h) (Nat.le_of_lt hM) (rm_lst 60 w1) (T ++ [rm_hdd 61 w2])
    have hpair : ∀ u v, rm_adj u v (rm_lst 60 w1) (T ++ [rm_hdd 61 w2]) = true → (u = 60 ∧ v = 61) ∨ ∃ d, rm_mk CH h u v c = some d := by
      intro u v huv
      have hff : rm_adj u v 60 ((w1 ++ (T ++ w2)) ++ [61]) = true := by rw [rm_adj3, huv, Bool.true_or, Bool.or_true]
      rcases r4 u v hff with a | ⟨m, hm, ha⟩
      · exact Or.inl a
      · cases hk : rm_mk CH h u v c with
        | none => exact absurd (rm_mk_none hk m (r2 m hm) hm ha) (fun z => z)
        | some d => exact Or.inr ⟨d, rfl⟩
    have hline : ∀ L u v, rm_adj u v (rm_lst 60 w1) (T ++ [rm_hdd 61 w2]) = true → (L = u ∨ L = v) → L ≠ 60 → L ≠ 61 → ∃ m, bt (rm_need CH nd h c (rm_lst 60 w1) (T ++ [rm_hdd 61 w2])) m = true ∧ m < c ∧ L ∈ rm_cP (CH m) := by
      intro L u v huv hL h0 h1
      rcases hpair u v huv with ⟨a, b⟩ | ⟨d, hd⟩
      · omega
      · obtain ⟨hdc, hdh, hda⟩ := rm_mk_some hd
        obtain ⟨m, hm, hp⟩ := rm_src hC hdc hda hL h0 h1
        refine ⟨m, (hbit m).mpr ⟨u, v, d, huv, hd, hm⟩, ?_, hp⟩
        rcases hm with rfl | hm
        · exact hdc
        · have := (hC d hdc).2.2.2.2.2.2.2.2.1 m hm
          omega
    have hBm := rm_lst_mem 60 w1
    have hEm : rm_hdd 61 w2 ∈ w2 ++ [61] := by rw [rm_tail 61 w2]; exact List.mem_cons_self
    rw [List.nodup_append, List.nodup_append] at r1
    unfold rm_C1
    rw [rm_up_s, pk_us]
    refine ⟨Nat.le_refl _, ?_, hp, hT, r1.2.1.1, ?_, ?_, ?_, ?_, ?_, ?_⟩
    · intro d hd
      rw [e1 d hd]
      exact (hC d hd).1
    · show rm_lst 60 w1 = 60 ∨ ∃ m, _ ∧ rm_lst 60 w1 ∈ _
      by_cases hb : rm_lst 60 w1 = 60
      · exact Or.inl hb
      · have hw : rm_lst 60 w1 ∈ w1 := by
          rcases List.mem_cons.mp hBm with a | a
          · exact absurd a hb
          · exact a
        have := hlt _ (List.mem_append_left _ hw)
        obtain ⟨v, hv⟩ := rm_mem_adj (u := rm_lst 60 w1) (x := rm_lst 60 w1) (e := rm_hdd 61 w2) (l := T) List.mem_cons_self
        obtain ⟨m, h1, h2, h3⟩ := hline _ _ v hv (Or.inl rfl) hb (by omega)
        exact Or.inr ⟨m, h1, by rw [e1 m h2]; exact h3⟩
    · show rm_hdd 61 w2 = 61 ∨ ∃ m, _ ∧ rm_hdd 61 w2 ∈ _
      by_cases hb : rm_hdd 61 w2 = 61
      · exact Or.inl hb
      · have hw : rm_hdd 61 w2 ∈ w2 := by
          rcases List.mem_append.mp hEm with a | a
          · exact a
          · exact absurd (by simpa using a) hb
        have := hlt _ (List.mem_append_right _ (List.mem_append_right _ hw))
        obtain ⟨u, hu⟩ := rm_mem_adj2 (v := rm_hdd 61 w2) (x := rm_lst 60 w1) (l := T ++ [rm_hdd 61 w2]) (by simp)
        obtain ⟨m, h1, h2, h3⟩ := hline _ u _ hu (Or.inr rfl) (by omega) hb
        exact Or.inr ⟨m, h1, by rw [e1 m h2]; exact h3⟩
    · intro L hL
      have hL' : L ∈ T := hL
      have := hlt _ (List.mem_append_right _ (List.mem_append_left _ hL'))
      obtain ⟨u, hu⟩ := rm_mem_adj2 (v := L) (x := rm_lst 60 w1) (l := T ++ [rm_hdd 61 w2]) (List.mem_append_left _ hL')
      obtain ⟨m, h1, h2, h3⟩ := hline _ u _ hu (Or.inr rfl) (by omega) (by omega)
      exact ⟨m, h1, by rw [e1 m h2]; exact h3⟩
    · intro d hd
      obtain ⟨u, v, e, _, hk, h3⟩ := (hbit d).mp hd
      obtain ⟨a, _, _⟩ := rm_mk_some hk
      rcases h3 with rfl | h3
      · exact a
      · have := (hC e a).2.2.2.2.2.2.2.2.1 d h3
        omega
    · intro d e hd he
      obtain ⟨u, v, f, h1, hk, h3⟩ := (hbit d).mp hd
      obtain ⟨a, _, _⟩ := rm_mk_some hk
      have hdc : d < c := by
        rcases h3 with rfl | h3
        · exact a
        · have := (hC f a).2.2.2.2.2.2.2.2.1 d h3
          omega
      rw [e2 d hdc] at he
      refine (hbit e).mpr ⟨u, v, f, h1, hk, Or.inr ?_⟩
      rcases h3 with rfl | h3
      · exact he
      · exact (hC f a).2.2.2.2.2.2.2.2.2.1 d e h3 he
    · intro u v huv
      rcases hpair u v huv with b | ⟨d, hd⟩
      · exact Or.inl b
      · obtain ⟨a, _, b⟩ := rm_mk_some hd
        refine Or.inr ⟨d, (hbit d).mpr ⟨u, v, d, huv, hd, Or.inl rfl⟩, ?_⟩
        rw [e1 d a]
        exact b
end
/-! the changes of one commit, made one after the other -/
def rm_App (x : rm_Ch) (L L' : List Nat) : Prop := ∃ w1 w2, rm_lst 60 w1 = rm_cB x ∧ rm_hdd 61 w2 = rm_cE x ∧ L = w1 ++ (rm_cT x ++ w2) ∧ L' = w1 ++ (rm_cP x ++ w2)
def rm_Stp (CH : Nat → rm_Ch) (M0 : Nat) (F : List Nat) : Nat → List Nat → Prop
  | 0, L => L = F
  | k + 1, L => ∃ L', rm_Stp CH M0 F k L' ∧ rm_App (CH (M0 + k)) L' L
theorem rm_Stp_congr {CH CH' : Nat → rm_Ch} {M0 : Nat} {F : List Nat} : ∀ (k : Nat) (L : List Nat), (∀ c, c < M0 + k → CH' c = CH c) → rm_Stp CH M0 F k L → rm_Stp CH' M0 F k L := by
  intro k
  induction k with
  | zero => intro L _ h; exact h
  | succ k ih =>
    intro L e h
    obtain ⟨L', h1, h2⟩ := h
    refine ⟨L', ih L' (fun c hc => e c (by omega)) h1, ?_⟩
    rw [e (M0 + k) (by omega)]
    exact h2
/-- the held set when k of them are made -/
def rm_hk (h : Int32) (M0 : Nat) : Nat → Int32
  | 0 => h
  | k + 1 => rm_hk h M0 k ||| ((1 : Int32) <<< (nI (M0 + k) &&& 31))
theorem rm_hk_bit {h : Int32} {M0 : Nat} (i : Nat) : ∀ k, M0 + k ≤ 16 → (bt (rm_hk h M0 k) i = true ↔ bt h i = true ∨ (M0 ≤ i ∧ i < M0 + k)) := by
  intro k
  induction k with
  | zero =>
    intro _
    constructor
    · intro h; exact Or.inl h
    · intro h
      rcases h with h | h
      · exact h
      · omega
  | succ k ih =>
    intro hk
    show bt (rm_hk h M0 k ||| ((1 : Int32) <<< (nI (M0 + k) &&& 31))) i = true ↔ _
    rw [rm_set (by omega), Bool.or_eq_true, decide_eq_true_eq, ih (by omega)]
    constructor
    · intro h
      rcases h with (h | h) | h
      · exact Or.inl h
      · exact Or.inr (by omega)
      · exact Or.inr (by omega)
    · intro h
      rcases h with h | h
      · exact Or.inl (Or.inl h)
      · by_cases e : i = M0 + k
        · exact Or.inr e
        · exact Or.inl (Or.inr (by omega))
theorem rm_Stp_RI {U M M0 : Nat} {CH : Nat → rm_Ch} {nd : Nat → Int32} {F : List Nat} {h : Int32} (hC : rm_CI U M CH nd) (hM : M ≤ 16) (hR : rm_RI M CH nd F h) (hh : ∀ c, bt h c = true → c < M0) (hN : ∀ c, M0 ≤ c → c < M → ∀ d, bt (nd c) d = true → bt h d = true) : ∀ (k : Nat) (L : List Nat), M0 + k ≤ M → rm_Stp CH M0 F k L → rm_RI M CH nd L (rm_hk h M0 k) := by
  intro k
  induction k with
  | zero =>
    intro L _ hs
    have : L = F := hs
    rw [this]
    exact hR
  | succ k ih =>
    intro L hk hs
    obtain ⟨L', h1, w1, w2, h2, h3, h4, h5⟩ := hs
    have h6 := ih L' (by omega) h1
    rw [h4] at h6
    rw [h5]
    refine rm_apply hC hM (by omega) h6 ?_ ?_ h2 h3
    · cases hb : bt (rm_hk h M0 k) (M0 + k) with
      | false => rfl
      | true =>
        rcases (rm_hk_bit _ k (by omega)).mp hb with a | a
        · have := hh _ a
          omega
        · omega
    · intro d hd
      exact (rm_hk_bit d k (by omega)).mpr (Or.inl (hN (M0 + k) (by omega) (by omega) d hd))
end
section
/-! rows for the walks' numbers -/
theorem rm_vin {n N : Nat} (h : n < N) (hN : N < 2 ^ 31) : vp_in (nI n) N = True := eq_true (vp_in_nI h hN)
theorem rm_62 (r : Nat) : (62 : Int32) * nI r = nI (62 * r) := pk_mul 62 r
theorem rm_20 (r : Nat) : (20 : Int32) * nI r = nI (20 * r) := pk_mul 20 r
theorem rm_21 (r : Nat) : (21 : Int32) * nI r = nI (21 * r) := pk_mul 21 r
theorem rm_22 (r : Nat) : (22 : Int32) * nI r = nI (22 * r) := pk_mul 22 r
theorem rm_p60 (a : Nat) : nI a + 60 = nI (a + 60) := nI_add a 60
theorem rm_p61 (a : Nat) : nI a + 61 = nI (a + 61) := nI_add a 61
theorem rm_p22 (a : Nat) : nI a + 22 = nI (a + 22) := nI_add a 22
theorem rm_p2 (a : Nat) : nI a + 2 = nI (a + 2) := nI_add a 2
theorem rm_nar0 : vp_nar .boolean 0 = 0 := rfl
theorem rm_nar1 : vp_nar .boolean 1 = 1 := rfl
/-! links: a room's row W is a chain -/
def rm_XR (r : Nat) (W : List Nat) (nx fl : Nat → Int32) : Prop := (∀ u v, rm_adj u v 60 (W ++ [61]) = true → nx (62 * r + u) = nI v) ∧ (∀ L, L < 62 → fl (62 * r + L) = if L ∈ rm_FF W then 1 else 0)
def rm_lnk (r : Nat) : (Nat → Int32) → Nat → List Nat → Nat → (Nat → Int32)
  | nx, x, [], e => upd nx (62 * r + x) (nI e)
  | nx, x, q :: Q, e => rm_lnk r (upd nx (62 * r + x) (nI q)) q Q e
def rm_st (r : Nat) (b : Int32) : (Nat → Int32) → List Nat → (Nat → Int32)
  | fl, [] => fl
  | fl, q :: Q => rm_st r b (upd fl (62 * r + q) b) Q
theorem rm_lnk_o {r e i : Nat} {Q : List Nat} : ∀ {nx : Nat → Int32} {x : Nat}, (∀ y, y ∈ x :: Q → i ≠ 62 * r + y) → rm_lnk r nx x Q e i = nx i := by
  induction Q with
  | nil => intro nx x h; exact pk_un (h x List.mem_cons_self)
  | cons q Q ih =>
    intro nx x h
    show rm_lnk r (upd nx (62 * r + x) (nI q)) q Q e i = _
    rw [ih (fun y hy => h y (List.mem_cons_of_mem _ hy))]
    exact pk_un (h x List.mem_cons_self)
theorem rm_lnk_i {r e u v : Nat} {Q : List Nat} : ∀ {nx : Nat → Int32} {x : Nat}, (x :: Q).Nodup → rm_adj u v x (Q ++ [e]) = true → rm_lnk r nx x Q e (62 * r + u) = nI v := by
  induction Q with
  | nil =>
    intro nx x _ h
    rcases rm_adj_cons h with ⟨rfl, rfl⟩ | h
    · exact pk_us
    · exact absurd h (by simp [rm_adj])
  | cons q Q ih =>
    intro nx x hn h
    rw [List.nodup_cons] at hn
    show rm_lnk r (upd nx (62 * r + x) (nI q)) q Q e (62 * r + u) = _
    rcases rm_adj_cons h with ⟨rfl, rfl⟩ | h
    · rw [rm_lnk_o, pk_us]
      intro y hy e
      have : x = y := by omega
      subst this
      exact hn.1 hy
    · exact ih hn.2 h
theorem rm_st_o {r i : Nat} {b : Int32} {Q : List Nat} : ∀ {fl : Nat → Int32}, (∀ y, y ∈ Q → i ≠ 62 * r + y) → rm_st r b fl Q i = fl i := by
  induction Q with
  | nil => intro fl h; rfl
  | cons q Q ih =>
    intro fl h
    show rm_st r b (upd fl (62 * r + q) b) Q i = _
    rw [ih (fun y hy => h y (List.mem_cons_of_mem _ hy))]
    exact pk_un (h q List.mem_cons_self)
theorem rm_st_i {r L : Nat} {b : Int32} {Q : List Nat} : ∀ {fl : Nat → Int32}, rm_st r b fl Q (62 * r + L) = if L ∈ Q then b else fl (62 * r + L) := by
  induction Q with
  | nil => intro fl; rfl
  | cons q Q ih =>
    intro fl
    show rm_st r b (upd fl (62 * r + q) b) Q (62 * r + L) = _
    rw [ih]
    by_cases h : L ∈ Q
    · rw [if_pos h, if_pos (List.mem_cons_of_mem _ h)]
    · rw [if_neg h]
      by_cases e : L = q
      · subst e
        rw [pk_us, if_pos List.mem_cons_self]
      · rw [pk_un (by omega), if_neg]
        intro hm
        rcases List.mem_cons.mp hm with a | a
        · exact e a
        · exact h a
theorem rm_relink {r : Nat} {w1 w2 Q Q' : List Nat} {nx fl : Nat → Int32} {B E : Nat} (hX : rm_XR r (w1 ++ (Q ++ w2)) nx fl) (h1 : (rm_FF (w1 ++ (Q ++ w2))).Nodup) (h2 : (rm_FF (w1 ++ (Q' ++ w2))).Nodup) (hB : rm_lst 60 w1 = B) (hE : rm_hdd 61 w2 = E) :
    rm_XR r (w1 ++ (Q' ++ w2)) (rm_lnk r nx B Q' E) (rm_st r 1 (rm_st r 0 fl Q) Q') := by
  obtain ⟨x1, x2⟩ := hX
  rw [rm_FF3, List.nodup_append, List.nodup_append] at h1 h2
  obtain ⟨a1, ⟨a2, a3, a4⟩, a5⟩ := h1
  obtain ⟨b1, ⟨b2, b3, b4⟩, b5⟩ := h2
  have hBm : B ∈ 60 :: w1 := by rw [← hB]; exact rm_lst_mem _ _
  constructor
  · intro u v huv
    rw [rm_adj3, Bool.or_eq_true, Bool.or_eq_true] at huv
    rcases huv with a | a | a
    · have hu1 := (rm_adj_mem a).1
      have hu2 := rm_adj_ne b1 a
      rw [rm_lnk_o]
      · apply x1
        rw [rm_adj3, a, Bool.true_or]
      · intro y hy e
        have : u = y := by omega
        subst this
        rcases List.mem_cons.mp hy with e | e
        · exact hu2 (e.trans hB.symm)
        · exact b5 u hu1 u (List.mem_append_left _ e) rfl
    · rw [hB, hE] at a
      refine rm_lnk_i ?_ a
      rw [List.nodup_cons]
      exact ⟨fun hm => b5 B hBm B (List.mem_append_left _ hm) rfl, b2⟩
    · have hu1 : u ∈ w2 ++ [61] := by rw [rm_tail 61 w2]; exact (rm_adj_mem a).1
      rw [rm_lnk_o]
      · apply x1
        rw [rm_adj3, a, Bool.or_true, Bool.or_true]
      · intro y hy e
        have : u = y := by omega
        subst this
        rcases List.mem_cons.mp hy with e | e
        · subst e
          exact b5 u hBm u (List.mem_append_right _ hu1) rfl
        · exact b4 u e u hu1 rfl
  · intro L hL
    rw [rm_st_i, rm_st_i, x2 L hL]
    have key : L ∈ rm_FF (w1 ++ (Q' ++ w2)) ↔ L ∈ 60 :: w1 ∨ L ∈ Q' ∨ L ∈ w2 ++ [61] := by
      rw [rm_FF3, List.mem_append, List.mem_append]
    have key2 : L ∈ rm_FF (w1 ++ (Q ++ w2)) ↔ L ∈ 60 :: w1 ∨ L ∈ Q ∨ L ∈ w2 ++ [61] := by
      rw [rm_FF3, List.mem_append, List.mem_append]
    by_cases c1 : L ∈ Q'
    · rw [if_pos c1, if_pos (key.mpr (Or.inr (Or.inl c1)))]
    · rw [if_neg c1]
      by_cases c2 : L ∈ Q
      · rw [if_pos c2, if_neg]
        intro hk
        rcases key.mp hk with a | a | a
        · exact a5 L a L (List.mem_append_left _ c2) rfl
        · exact c1 a
        · exact a4 L c2 L a rfl
      · rw [if_neg c2]
        by_cases c3 : L ∈ 60 :: w1 ∨ L ∈ w2 ++ [61]
        · rw [if_pos (key2.mpr (by rcases c3 with a | a; exact Or.inl a; exact Or.inr (Or.inr a))), if_pos (key.mpr (by rcases c3 with a | a; exact Or.inl a; exact Or.inr (Or.inr a)))]
        · rw [if_neg, if_neg]
          · intro hk
            rcases key.mp hk with a | a | a
            · exact c3 (Or.inl a)
            · exact c1 a
            · exact c3 (Or.inr a)
          · intro hk
            rcases key2.mp hk with a | a | a
            · exact c3 (Or.inl a)
            · exact c2 a
            · exact c3 (Or.inr a)
/-! whether a run stands in a row -/
def rm_Std (W : List Nat) (B E : Nat) (Q : List Nat) : Prop := ∃ w1 w2, rm_lst 60 w1 = B ∧ rm_hdd 61 w2 = E ∧ W = w1 ++ (Q ++ w2)
def rm_wlk (E : Nat) : List Nat → List Nat → Bool
  | w, [] => decide (rm_hdd 61 w = E)
  | [], _ :: _ => false
  | y :: w, q :: Q => decide (y = q) && rm_wlk E w Q
theorem rm_wlk_iff {E : Nat} : ∀ {Q w : List Nat}, rm_wlk E w Q = true ↔ ∃ w2, w = Q ++ w2 ∧ rm_hdd 61 w2 = E := by
  intro Q
  induction Q with
  | nil =>
    intro w
    have : rm_wlk E w [] = decide (rm_hdd 61 w = E) := by cases w <;> rfl
    rw [this, decide_eq_true_eq]
    constructor
    · intro h; exact ⟨w, rfl, h⟩
    · intro h
      obtain ⟨w2, rfl, h⟩ := h
      exact h
  | cons q Q ih =>
    intro w
    cases w with
    | nil =>
      constructor
      · intro h; cases h
      · intro h
        obtain ⟨w2, h, _⟩ := h
        cases h
    | cons y w =>
      show (decide (y = q) && rm_wlk E w Q) = true ↔ _
      rw [Bool.and_eq_true, decide_eq_true_eq, ih]
      constructor
      · intro h
        obtain ⟨rfl, w2, rfl, h⟩ := h
        exact ⟨w2, rfl, h⟩
      · intro h
        obtain ⟨w2, h1, h2⟩ := h
        rw [List.cons_append, List.cons.injEq] at h1
        exact ⟨h1.1, w2, h1.2, h2⟩
theorem rm_spl {B : Nat} : ∀ {W : List Nat} {x : Nat}, B ∈ x :: W → ∃ w1 w, W = w1 ++ w ∧ rm_lst x w1 = B := by
  intro W
  induction W with
  | nil =>
    intro x h
    have : B = x := by simpa using h
    exact ⟨[], [], rfl, this.symm⟩
  | cons y W ih =>
    intro x h
    rcases List.mem_cons.mp h with rfl | h
    · exact ⟨[], y :: W, rfl, rfl⟩
    · obtain ⟨w1, w, rfl, h2⟩ := ih h
      exact ⟨y :: w1, w, rfl, h2⟩
theorem rm_uniq {W w1 w w1' w' : List Nat} (hn : (rm_FF W).Nodup) (e : W = w1 ++ w) (e' : W = w1' ++ w') (h : rm_lst 60 w1 = rm_lst 60 w1') : w1 = w1' ∧ w = w' := by
  have g : ∀ a b : List Nat, W = a ++ b → rm_lst 60 a = rm_g (rm_FF W) a.length ∧ a.length < (rm_FF W).length := by
    intro a b eab
    subst eab
    have e3 : rm_FF (a ++ b) = (60 :: a) ++ (b ++ [61]) := by simp [rm_FF]
    rw [rm_lst_g, e3]
    constructor
    · exact (rm_g_l (by simp)).symm
    · simp
      omega
  have l : w1.length = w1'.length := by
    have g1 := g w1 w e
    have g2 := g w1' w' e'
    apply rm_g_inj hn g1.2 g2.2
    rw [← g1.1, ← g2.1, h]
  rw [e] at e'
  exact List.append_inj e' l
theorem rm_Std_iff {W w1 w Q : List Nat} {B E : Nat} (hn : (rm_FF W).Nodup) (e : W = w1 ++ w) (hB : rm_lst 60 w1 = B) : rm_Std W B E Q ↔ rm_wlk E w Q = true := by
  rw [rm_wlk_iff]
  constructor
  · intro h
    obtain ⟨v1, v2, h1, h2, h3⟩ := h
    obtain ⟨rfl, rfl⟩ := rm_uniq hn e h3 (hB.trans h1.symm)
    exact ⟨v2, rfl, h2⟩
  · intro h
    obtain ⟨w2, rfl, h2⟩ := h
    exact ⟨w1, w2, hB, h2, e⟩
theorem rm_Std_mem {W Q : List Nat} {B E : Nat} (h : rm_Std W B E Q) : B ∈ 60 :: W := by
  obtain ⟨w1, w2, h1, _, h3⟩ := h
  rw [← h1, h3]
  rcases List.mem_cons.mp (rm_lst_mem 60 w1) with a | a
  · rw [a]; exact List.mem_cons_self
  · exact List.mem_cons_of_mem _ (List.mem_append_left _ a)
/-- the link behind a place of the row -/
theorem rm_XRn {r : Nat} {W w1 w : List Nat} {nx fl : Nat → Int32} {B : Nat} (hX : rm_XR r W nx fl) (e : W = w1 ++ w) (hB : rm_lst 60 w1 = B) : nx (62 * r + B) = nI (rm_hdd 61 w) := by
  apply hX.1
  subst e
  rw [List.append_assoc, rm_adj_app, hB, rm_tail 61 w, rm_adj_c1, Bool.or_true]
end
section
/-! the component's walks: rooms, rows, runs -/
theorem rm_wfS0 (a : Nat → Int32) (n : Nat) (f : Nat → Int32) : upd (rm_wf a 0 n f) n (f n) = rm_wf a 0 (n + 1) f := by
  have h := rm_wfS a 0 n f
  rw [Nat.zero_add] at h
  exact h
theorem rm_gk {T T0 Q : List Nat} {q k : Nat} (h : T = T0 ++ q :: Q) (hk : T0.length = k) : rm_g T k = q ∧ k < T.length ∧ T = (T0 ++ [q]) ++ Q ∧ (T0 ++ [q]).length = k + 1 := by
  subst h hk
  refine ⟨?_, by simp, by simp, by simp⟩
  rw [rm_g_r (Nat.le_refl _), Nat.sub_self]
  rfl
theorem rm_i10 : ¬ (1 : Int32) = 0 := by decide
theorem rm_ih {w : List Nat} (h : ∀ L, L ∈ w → L < 60) : rm_hdd 61 w ≤ 61 := by
  cases w with
  | nil => exact Nat.le_refl _
  | cons y w =>
    have h1 := h y List.mem_cons_self
    show y ≤ 61
    omega
def rm_EC (x : rm_Ch) (bf bh pf pc tc tk : Nat → Int32) (c : Nat) : Prop := bf c = nI (rm_cB x) ∧ bh c = nI (rm_cE x) ∧ pf c = nI (rm_cF x) ∧ pc c = nI (rm_cN x) ∧ tc c = nI (rm_cT x).length ∧ ∀ k, k < (rm_cT x).length → tk (20 * c + k) = nI (rm_g (rm_cT x) k)
def rm_BC (x : rm_Ch) : Prop := rm_cB x ≤ 60 ∧ rm_cE x ≤ 61 ∧ (∀ L, L ∈ rm_cT x → L < 60) ∧ rm_cF x + rm_cN x ≤ 60 ∧ rm_cN x ≤ 20 ∧ (rm_cT x).length ≤ 20
theorem rx_room_t {post : Int32 → Prop} {r : Nat} (hr : r < 3) (H : post 1) : wpX_isRoom post (nI r) := by
  unfold wpX_isRoom
  exact br_f (nI_pos (by omega)) (br_f (nI_ge (b := 3) hr (by decide)) H)
theorem rx_room_f {post : Int32 → Prop} {v : Int32} (h : v < 0 ∨ nI 3 ≤ v) (H : post 0) : wpX_isRoom post v := by
  unfold wpX_isRoom
  exact br_c (fun _ => H) (fun h0 => br_c (fun _ => H) (fun h3 => absurd h (by intro z; rcases z with z | z; exact h0 z; exact h3 z)))
section
variable {U M : Nat} {pl pt ys : Int32} {tx sr bf bh pf pc tc tk nd hd nx fl sz cs cp ro mx mt pu fi wk po my : Nat → Int32}
theorem rx_chg_t {post : Int32 → Prop} {c : Nat} (hM : M ≤ 16) (hc : c < M) (H : post 1) : wpX_isChange post (nI U, nI M, pl, pt, tx, sr, bf, bh, pf, pc, tc, tk, nd, hd, nx, fl, sz, cs, cp, ro, mx, mt) (nI c) := by
  unfold wpX_isChange
  exact br_f (nI_pos (by omega)) (br_f (nI_ge hc (by omega)) H)
theorem rx_chg_f {post : Int32 → Prop} {v : Int32} (h : v < 0 ∨ nI M ≤ v) (H : post 0) : wpX_isChange post (nI U, nI M, pl, pt, tx, sr, bf, bh, pf, pc, tc, tk, nd, hd, nx, fl, sz, cs, cp, ro, mx, mt) v := by
  unfold wpX_isChange
  exact br_c (fun _ => H) (fun h0 => br_c (fun _ => H) (fun h3 => absurd h (by intro z; rcases z with z | z; exact h0 z; exact h3 z)))
theorem rx_holds {post : Int32 → Prop} {r c : Nat} (hr : r < 3) (hc : c < 16) (h1 : bt (hd r) c = true → post 1) (h0 : bt (hd r) c = false → post 0) : wpX_holds post (nI U, nI M, pl, pt, tx, sr, bf, bh, pf, pc, tc, tk, nd, hd, nx, fl, sz, cs, cp, ro, mx, mt) (nI r) (nI c) := by
  unfold wpX_holds
  refine And.intro (vp_in_nI hr (by decide)) ?_
  rw [nI_clamp (by omega)]
  cases hb : bt (hd r) c
  · exact br_f (rm_bitF (by omega) hb) (h0 hb)
  · exact br_t (rm_bitT (by omega) hb) (h1 hb)
theorem rx_layRow {post : SX → Prop} {r : Nat} {W : List Nat} (hr : r < 3) (hX : rm_XR r W nx fl) (hs : sz r = nI W.length) (hl : W.length ≤ 20) (hw : ∀ L, L ∈ W → L < 60) (H : post (nI U, nI M, pl, pt, tx, sr, bf, bh, pf, pc, tc, tk, nd, hd, nx, fl, sz, cs, cp, rm_wf ro 0 W.length (fun k => nI (rm_g W k)), mx, mt)) : wpX_layRow post (nI U, nI M, pl, pt, tx, sr, bf, bh, pf, pc, tc, tk, nd, hd, nx, fl, sz, cs, cp, ro, mx, mt) (nI r) := by
  have key : ∀ (w w1 : List Nat) (k : Nat), w1.length = k → W = w1 ++ w → wX_layRow_15 post (nI r) (nI U) (nI M) pl pt (w.length + 1) (nI (rm_hdd 61 w)) (nI k) tx sr bf bh pf pc tc tk nd hd nx fl sz cs cp (rm_wf ro 0 k (fun k => nI (rm_g W k))) mx mt := by
    intro w
    induction w with
    | nil =>
      intro w1 k hk e
      have e1 : k = W.length := by rw [e, ← hk]; simp
      subst e1
      rw [wX_layRow_15]
      simp (disch := omega) only [forall_eq, true_and, rm_vin, nI_clamp, rm_62, rm_20, rm_21, rm_22, rm_p60, rm_p61, rm_p22, rm_p2, nI_1, nI_add, nI_pred, pk_m1, hs, nI_leI]
      exact ⟨fun _ => H, fun h => absurd (Nat.le_refl _) h⟩
    | cons y w ih =>
      intro w1 k hk e
      obtain ⟨g1, g2, g3, g4⟩ := rm_gk e hk
      have hy : y < 60 := hw y (by rw [e]; simp)
      have e2 : upd (rm_wf ro 0 k (fun k => nI (rm_g W k))) k (nI y) = rm_wf ro 0 (k + 1) (fun k => nI (rm_g W k)) := by
        rw [← rm_wfS0, g1]
      have e3 : nx (62 * r + y) = nI (rm_hdd 61 w) := rm_XRn hX g3 (rm_lst_snoc _ _ _)
      have h5 := ih (w1 ++ [y]) (k + 1) g4 g3
      rw [wX_layRow_15]
      simp (disch := omega) only [rm_hdd, forall_eq, true_and, rm_vin, nI_clamp, rm_62, rm_20, rm_21, rm_22, rm_p60, rm_p61, rm_p22, rm_p2, nI_1, nI_add, nI_pred, pk_m1, hs, nI_leI, e2, e3]
      exact ⟨fun h => absurd h (by omega), fun _ => h5⟩
  have h0 := key W [] 0 rfl rfl
  rw [rm_wf0] at h0
  have e0 : nx (62 * r + 60) = nI (rm_hdd 61 W) := rm_XRn hX (w1 := []) rfl rfl
  simp (disch := omega) only [wpX_layRow, forall_eq, true_and, rm_vin, nI_clamp, rm_62, rm_20, rm_21, rm_22, rm_p60, rm_p61, rm_p22, rm_p2, nI_1, nI_add, nI_pred, pk_m1, e0]
  exact ⟨_, h0⟩
theorem rx_revert {post : Int32 → SX → Prop} {r : Nat} {W : List Nat} (hr : r < 3) (hX : rm_XR r W nx fl) (hs : sz r = nI W.length) (hl : W.length ≤ 20) (hw : ∀ L, L ∈ W → L < 60) (H : post (nI W.length) (nI U, nI M, pl, pt, tx, sr, bf, bh, pf, pc, tc, tk, nd, hd, nx, fl, sz, upd cs r (nI W.length), rm_wf cp (20 * r) W.length (fun k => tx (rm_g W k)), rm_wf ro 0 W.length (fun k => nI (rm_g W k)), mx, mt)) : wpX_revert post (nI U, nI M, pl, pt, tx, sr, bf, bh, pf, pc, tc, tk, nd, hd, nx, fl, sz, cs, cp, ro, mx, mt) (nI r) := by
  have key : ∀ (d k : Nat), k + d = W.length → wX_revert_16 post (nI r) (nI U) (nI M) pl pt (d + 1) (nI k) tx sr bf bh pf pc tc tk nd hd nx fl sz cs (rm_wf cp (20 * r) k (fun k => tx (rm_g W k))) (rm_wf ro 0 W.length (fun k => nI (rm_g W k))) mx mt := by
    intro d
    induction d with
    | zero =>
      intro k hk
      have e1 : k = W.length := by omega
      subst e1
      rw [wX_revert_16]
      simp (disch := omega) only [forall_eq, true_and, rm_vin, nI_clamp, rm_62, rm_20, rm_21, rm_22, rm_p60, rm_p61, rm_p22, rm_p2, nI_1, nI_add, nI_pred, pk_m1, hs, nI_leI]
      exact ⟨fun _ => H, fun h => absurd (Nat.le_refl _) h⟩
    | succ d ih =>
      intro k hk
      have hy : rm_g W k < 60 := hw _ (rm_g_mem (by omega))
      have e0 : rm_wf ro 0 W.length (fun k => nI (rm_g W k)) k = nI (rm_g W k) := by
        have := rm_wf_i (a := ro) (b := 0) (n := W.length) (f := fun k => nI (rm_g W k)) (k := k) (by omega)
        rw [Nat.zero_add] at this
        exact this
      have e2 := rm_wfS cp (20 * r) k (fun k => tx (rm_g W k))
      have h5 := ih (k + 1) (by omega)
      rw [wX_revert_16]
      simp (disch := omega) only [forall_eq, true_and, rm_vin, nI_clamp, rm_62, rm_20, rm_21, rm_22, rm_p60, rm_p61, rm_p22, rm_p2, nI_1, nI_add, nI_pred, pk_m1, hs, nI_leI, e0, e2]
      exact ⟨fun h => absurd h (by omega), fun _ => h5⟩
  have h0 := key W.length 0 (by omega)
  rw [rm_wf0] at h0
  simp only [wpX_revert]
  refine rx_room_t hr (br_f rm_i10 (rx_layRow hr hX hs hl hw ?_))
  exact ⟨_, h0⟩
theorem rx_runStands {post : Int32 → Prop} {r c : Nat} {W : List Nat} {x : rm_Ch} (hr : r < 3) (hc : c < 16) (hX : rm_XR r W nx fl) (hn : (rm_FF W).Nodup) (hw : ∀ L, L ∈ W → L < 60) (he : rm_EC x bf bh pf pc tc tk c) (hb : rm_BC x) (h1 : rm_Std W (rm_cB x) (rm_cE x) (rm_cT x) → post 1) (h0 : ¬ rm_Std W (rm_cB x) (rm_cE x) (rm_cT x) → post 0) : wpX_runStands post (nI U, nI M, pl, pt, tx, sr, bf, bh, pf, pc, tc, tk, nd, hd, nx, fl, sz, cs, cp, ro, mx, mt) (nI r) (nI c) := by
  obtain ⟨e1, e2, e3, e4, e5, e6⟩ := he
  obtain ⟨b1, b2, b3, b4, b5, b6⟩ := hb
  have key : ∀ (Q T0 w w1 : List Nat) (k t : Nat), T0.length = k → rm_cT x = T0 ++ Q → W = w1 ++ w → rm_lst 60 w1 = t → t ≤ 60 → (rm_wlk (rm_cE x) w Q = true → post 1) → (rm_wlk (rm_cE x) w Q = false → post 0) → wX_runStands_30 post (nI c) (nI (62 * r)) (nI U) (nI M) pl pt tx sr bf bh pf pc tc tk nd hd nx fl sz cs cp ro mx mt (Q.length + 1) (nI t) (nI k) := by
    intro Q
    induction Q with
    | nil =>
      intro T0 w w1 k t hk eT eW ht ht6 p1 p0
      have hk' : (rm_cT x).length = k := by rw [eT, ← hk]; simp
      have e7 := rm_XRn hX eW ht
      have hh : rm_hdd 61 w ≤ 61 := rm_ih (fun L hL => hw L (by rw [eW]; exact List.mem_append_right _ hL))
      have hwl : rm_wlk (rm_cE x) w [] = decide (rm_hdd 61 w = rm_cE x) := by cases w <;> rfl
      rw [hwl, decide_eq_true_eq] at p1
      rw [hwl, decide_eq_false_iff_not] at p0
      rw [wX_runStands_30]
      simp (disch := omega) only [forall_eq, true_and, rm_vin, nI_clamp, rm_62, rm_20, rm_21, rm_22, rm_p60, rm_p61, rm_p22, rm_p2, nI_1, nI_add, nI_pred, pk_m1, e5, nI_leI, e7, e2, nI_eq]
      exact ⟨fun _ => ⟨p1, p0⟩, fun h => absurd h (by omega)⟩
    | cons q Q ih =>
      intro T0 w w1 k t hk eT eW ht ht6 p1 p0
      obtain ⟨g1, g2, g3, g4⟩ := rm_gk eT hk
      have e7 := rm_XRn hX eW ht
      have hq : q < 60 := b3 q (by rw [eT]; simp)
      have e8 : tk (20 * c + k) = nI q := by rw [e6 k g2, g1]
      have hh : rm_hdd 61 w ≤ 61 := rm_ih (fun L hL => hw L (by rw [eW]; exact List.mem_append_right _ hL))
      rw [wX_runStands_30]
      simp (disch := omega) only [forall_eq, true_and, rm_vin, nI_clamp, rm_62, rm_20, rm_21, rm_22, rm_p60, rm_p61, rm_p22, rm_p2, nI_1, nI_add, nI_pred, pk_m1, e5, nI_leI, e7, e8, nI_eq]
      refine ⟨fun h => absurd h (by omega), fun _ => ⟨fun h => ?_, fun h => ?_⟩⟩
      · cases w with
        | nil =>
          have h' : 61 = q := h
          omega
        | cons y w =>
          have h' : y = q := h
          subst h'
          have hy : rm_wlk (rm_cE x) (y :: w) (y :: Q) = rm_wlk (rm_cE x) w Q := by
            show (decide (y = y) && _) = _
            rw [decide_eq_true rfl, Bool.true_and]
          rw [hy] at p1 p0
          exact ih (T0 ++ [y]) w (w1 ++ [y]) (k + 1) y g4 g3 (by rw [eW]; simp) (rm_lst_snoc _ _ _) (by omega) p1 p0
      · apply p0
        cases w with
        | nil => rfl
        | cons y w =>
          have h' : ¬ y = q := h
          show (decide (y = q) && _) = false
          rw [decide_eq_false h', Bool.false_and]
  by_cases hB : rm_cB x ∈ 60 :: W
  · obtain ⟨w1, w, eW, hl⟩ := rm_spl hB
    have hst := rm_Std_iff (Q := rm_cT x) (E := rm_cE x) hn eW hl
    have h5 := key (rm_cT x) [] w w1 0 (rm_cB x) rfl rfl eW hl b1 (fun h => h1 (hst.mpr h)) (fun h => h0 (fun z => by rw [hst.mp z] at h; cases h))
    have e8 : fl (62 * r + rm_cB x) = 1 := by
      rw [hX.2 _ (by omega), if_pos]
      show rm_cB x ∈ 60 :: (W ++ [61])
      rcases List.mem_cons.mp hB with a | a
      · rw [a]; exact List.mem_cons_self
      · exact List.mem_cons_of_mem _ (List.mem_append_left _ a)
    simp (disch := omega) only [wpX_runStands, forall_eq, true_and, rm_vin, nI_clamp, rm_62, rm_20, rm_21, rm_22, rm_p60, rm_p61, rm_p22, rm_p2, nI_1, nI_add, nI_pred, pk_m1, e1, e8]
    exact br_f rm_i10 ⟨_, h5⟩
  · have e8 : fl (62 * r + rm_cB x) = 0 := by
      rw [hX.2 _ (by omega), if_neg]
      show ¬ rm_cB x ∈ 60 :: (W ++ [61])
      intro hm
      rcases List.mem_cons.mp hm with a | a
      · exact hB (by rw [a]; exact List.mem_cons_self)
      · rcases List.mem_append.mp a with a | a
        · exact hB (List.mem_cons_of_mem _ a)
        · have : rm_cB x = 61 := by simpa using a
          omega
    simp (disch := omega) only [wpX_runStands, forall_eq, true_and, rm_vin, nI_clamp, rm_62, rm_20, rm_21, rm_22, rm_p60, rm_p61, rm_p22, rm_p2, nI_1, nI_add, nI_pred, pk_m1, e1, e8]
    exact br_t (by trivial) (h0 (fun z => hB (rm_Std_mem z)))
theorem rm_gP {x : rm_Ch} {P0 Q : List Nat} {q k : Nat} (h : rm_cP x = P0 ++ q :: Q) (hk : P0.length = k) : rm_cF x + k = q ∧ k < rm_cN x := by
  obtain ⟨g1, g2, _, _⟩ := rm_gk h hk
  have g3 : k < rm_cN x := by
    have : (rm_cP x).length = rm_cN x := List.length_range'
    omega
  refine ⟨?_, g3⟩
  rw [← g1]
  exact (rm_g_range' _ _ _ g3).symm
theorem rm_lP (x : rm_Ch) : (rm_cP x).length = rm_cN x := List.length_range'
theorem rx_runAfterStands {post : Int32 → Prop} {r c : Nat} {W : List Nat} {x : rm_Ch} (hr : r < 3) (hc : c < 16) (hX : rm_XR r W nx fl) (hn : (rm_FF W).Nodup) (hw : ∀ L, L ∈ W → L < 60) (he : rm_EC x bf bh pf pc tc tk c) (hb : rm_BC x) (h1 : rm_Std W (rm_cB x) (rm_cE x) (rm_cP x) → post 1) (h0 : ¬ rm_Std W (rm_cB x) (rm_cE x) (rm_cP x) → post 0) : wpX_runAfterStands post (nI U, nI M, pl, pt, tx, sr, bf, bh, pf, pc, tc, tk, nd, hd, nx, fl, sz, cs, cp, ro, mx, mt) (nI r) (nI c) := by
  obtain ⟨e1, e2, e3, e4, e5, e6⟩ := he
  obtain ⟨b1, b2, b3, b4, b5, b6⟩ := hb
  have key : ∀ (Q T0 w w1 : List Nat) (k t : Nat), T0.length = k → rm_cP x = T0 ++ Q → W = w1 ++ w → rm_lst 60 w1 = t → t ≤ 60 → (rm_wlk (rm_cE x) w Q = true → post 1) → (rm_wlk (rm_cE x) w Q = false → post 0) → wX_runAfterStands_30 post (nI c) (nI (62 * r)) (nI U) (nI M) pl pt tx sr bf bh pf pc tc tk nd hd nx fl sz cs cp ro mx mt (Q.length + 1) (nI t) (nI k) := by
    intro Q
    induction Q with
    | nil =>
      intro T0 w w1 k t hk eT eW ht ht6 p1 p0
      have hk' : rm_cN x = k := by rw [← rm_lP, eT, ← hk]; simp
      have e7 := rm_XRn hX eW ht
      have hh : rm_hdd 61 w ≤ 61 := rm_ih (fun L hL => hw L (by rw [eW]; exact List.mem_append_right _ hL))
      have hwl : rm_wlk (rm_cE x) w [] = decide (rm_hdd 61 w = rm_cE x) := by cases w <;> rfl
      rw [hwl, decide_eq_true_eq] at p1
      rw [hwl, decide_eq_false_iff_not] at p0
      rw [wX_runAfterStands_30]
      simp (disch := omega) only [forall_eq, true_and, rm_vin, nI_clamp, rm_62, rm_20, rm_21, rm_22, rm_p60, rm_p61, rm_p22, rm_p2, nI_1, nI_add, nI_pred, pk_m1, e4, nI_leI, e7, e2, nI_eq]
      exact ⟨fun _ => ⟨p1, p0⟩, fun h => absurd h (by omega)⟩
    | cons q Q ih =>
      intro T0 w w1 k t hk eT eW ht ht6 p1 p0
      obtain ⟨g1, g2, g3, g4⟩ := rm_gk eT hk
      obtain ⟨f1, f2⟩ := rm_gP eT hk
      have e7 := rm_XRn hX eW ht
      have hq : q < 60 := by omega
      have hh : rm_hdd 61 w ≤ 61 := rm_ih (fun L hL => hw L (by rw [eW]; exact List.mem_append_right _ hL))
      rw [wX_runAfterStands_30]
      simp (disch := omega) only [forall_eq, true_and, rm_vin, nI_clamp, rm_62, rm_20, rm_21, rm_22, rm_p60, rm_p61, rm_p22, rm_p2, nI_1, nI_add, nI_pred, pk_m1, e4, e3, nI_leI, e7, f1, nI_eq]
      refine ⟨fun h => absurd h (by omega), fun _ => ⟨fun h => ?_, fun h => ?_⟩⟩
      · cases w with
        | nil =>
          have h' : 61 = q := h
          omega
        | cons y w =>
          have h' : y = q := h
          subst h'
          have hy : rm_wlk (rm_cE x) (y :: w) (y :: Q) = rm_wlk (rm_cE x) w Q := by
            show (decide (y = y) && _) = _
            rw [decide_eq_true rfl, Bool.true_and]
          rw [hy] at p1 p0
          exact ih (T0 ++ [y]) w (w1 ++ [y]) (k + 1) y g4 g3 (by rw [eW]; simp) (rm_lst_snoc _ _ _) (by omega) p1 p0
      · apply p0
        cases w with
        | nil => rfl
        | cons y w =>
          have h' : ¬ y = q := h
          show (decide (y = q) && _) = false
          rw [decide_eq_false h', Bool.false_and]
  by_cases hB : rm_cB x ∈ 60 :: W
  · obtain ⟨w1, w, eW, hl⟩ := rm_spl hB
    have hst := rm_Std_iff (Q := rm_cP x) (E := rm_cE x) hn eW hl
    have h5 := key (rm_cP x) [] w w1 0 (rm_cB x) rfl rfl eW hl b1 (fun h => h1 (hst.mpr h)) (fun h => h0 (fun z => by rw [hst.mp z] at h; cases h))
    have e8 : fl (62 * r + rm_cB x) = 1 := by
      rw [hX.2 _ (by omega), if_pos]
      show rm_cB x ∈ 60 :: (W ++ [61])
      rcases List.mem_cons.mp hB with a | a
      · rw [a]; exact List.mem_cons_self
      · exact List.mem_cons_of_mem _ (List.mem_append_left _ a)
    simp (disch := omega) only [wpX_runAfterStands, forall_eq, true_and, rm_vin, nI_clamp, rm_62, rm_20, rm_21, rm_22, rm_p60, rm_p61, rm_p22, rm_p2, nI_1, nI_add, nI_pred, pk_m1, e1, e8]
    exact br_f rm_i10 ⟨_, h5⟩
  · have e8 : fl (62 * r + rm_cB x) = 0 := by
      rw [hX.2 _ (by omega), if_neg]
      show ¬ rm_cB x ∈ 60 :: (W ++ [61])
      intro hm
      rcases List.mem_cons.mp hm with a | a
      · exact hB (by rw [a]; exact List.mem_cons_self)
      · rcases List.mem_append.mp a with a | a
        · exact hB (List.mem_cons_of_mem _ a)
        · have : rm_cB x = 61 := by simpa using a
          omega
    simp (disch := omega) only [wpX_runAfterStands, forall_eq, true_and, rm_vin, nI_clamp, rm_62, rm_20, rm_21, rm_22, rm_p60, rm_p61, rm_p22, rm_p2, nI_1, nI_add, nI_pred, pk_m1, e1, e8]
    exact br_t (by trivial) (h0 (fun z => hB (rm_Std_mem z)))
end
end
section
/-! the component's walks: a change made, a change taken back -/
section
variable {U M : Nat} {pl pt ys : Int32} {tx sr bf bh pf pc tc tk nd hd nx fl sz cs cp ro mx mt pu fi wk po my : Nat → Int32}
theorem rx_makeChange {post : SX → Prop} {r c : Nat} {x : rm_Ch} (hr : r < 3) (hc : c < 16) (he : rm_EC x bf bh pf pc tc tk c) (hb : rm_BC x) (H : post (nI U, nI M, pl, pt, tx, sr, bf, bh, pf, pc, tc, tk, nd, upd hd r (hd r ||| ((1 : Int32) <<< (nI c &&& 31))), rm_lnk r nx (rm_cB x) (rm_cP x) (rm_cE x), rm_st r 1 (rm_st r 0 fl (rm_cT x)) (rm_cP x), upd sz r (sz r + (nI (rm_cN x) - nI (rm_cT x).length)), cs, cp, ro, mx, mt)) : wpX_makeChange post (nI U, nI M, pl, pt, tx, sr, bf, bh, pf, pc, tc, tk, nd, hd, nx, fl, sz, cs, cp, ro, mx, mt) (nI r) (nI c) := by
  obtain ⟨e1, e2, e3, e4, e5, e6⟩ := he
  obtain ⟨b1, b2, b3, b4, b5, b6⟩ := hb
  have key2 : ∀ (Q P0 : List Nat) (k t : Nat) (nx fl : Nat → Int32), P0.length = k → rm_cP x = P0 ++ Q → t ≤ 60 → post (nI U, nI M, pl, pt, tx, sr, bf, bh, pf, pc, tc, tk, nd, upd hd r (hd r ||| ((1 : Int32) <<< (nI c &&& 31))), rm_lnk r nx t Q (rm_cE x), rm_st r 1 fl Q, upd sz r (sz r + (nI (rm_cN x) - nI (rm_cT x).length)), cs, cp, ro, mx, mt) → wX_makeChange_56 post (nI r) (nI c) (nI (62 * r)) (nI U) (nI M) pl pt (Q.length + 1) (nI t) (nI k) tx sr bf bh pf pc tc tk nd hd nx fl sz cs cp ro mx mt := by
    intro Q
    induction Q with
    | nil =>
      intro P0 k t nx fl hk eT ht h5
      have hk' : rm_cN x = k := by rw [← rm_lP, eT, ← hk]; simp
      rw [wX_makeChange_56]
      simp (disch := omega) only [forall_eq, true_and, rm_vin, nI_clamp, rm_62, rm_20, rm_21, rm_22, rm_p60, rm_p61, rm_p22, rm_p2, nI_1, nI_add, nI_pred, pk_m1, e4, e5, nI_leI, e2]
      exact ⟨fun _ => h5, fun h => absurd h (by omega)⟩
    | cons q Q ih =>
      intro P0 k t nx fl hk eT ht h5
      obtain ⟨g1, g2, g3, g4⟩ := rm_gk eT hk
      obtain ⟨f1, f2⟩ := rm_gP eT hk
      have h6 := ih (P0 ++ [q]) (k + 1) q (upd nx (62 * r + t) (nI q)) (upd fl (62 * r + q) 1) g4 g3 (by omega) h5
      rw [wX_makeChange_56]
      simp (disch := omega) only [forall_eq, true_and, rm_vin, nI_clamp, rm_62, rm_20, rm_21, rm_22, rm_p60, rm_p61, rm_p22, rm_p2, nI_1, nI_add, nI_pred, pk_m1, e4, e3, nI_leI, f1, rm_nar1]
      exact ⟨fun h => absurd h (by omega), fun _ => h6⟩
  have key : ∀ (Q T0 : List Nat) (k : Nat) (fl : Nat → Int32), T0.length = k → rm_cT x = T0 ++ Q → (∃ n, wX_makeChange_56 post (nI r) (nI c) (nI (62 * r)) (nI U) (nI M) pl pt n (nI (rm_cB x)) 0 tx sr bf bh pf pc tc tk nd hd nx (rm_st r 0 fl Q) sz cs cp ro mx mt) → wX_makeChange_8 post (nI r) (nI c) (nI (62 * r)) (nI U) (nI M) pl pt (Q.length + 1) (nI k) tx sr bf bh pf pc tc tk nd hd nx fl sz cs cp ro mx mt := by
    intro Q
    induction Q with
    | nil =>
      intro T0 k fl hk eT h5
      have hk' : (rm_cT x).length = k := by rw [eT, ← hk]; simp
      rw [wX_makeChange_8]
      simp (disch := omega) only [forall_eq, true_and, rm_vin, nI_clamp, rm_62, rm_20, rm_21, rm_22, rm_p60, rm_p61, rm_p22, rm_p2, nI_1, nI_add, nI_pred, pk_m1, e5, nI_leI, e1]
      exact ⟨fun _ => h5, fun h => absurd h (by omega)⟩
    | cons q Q ih =>
      intro T0 k fl hk eT h5
      obtain ⟨g1, g2, g3, g4⟩ := rm_gk eT hk
      have hq : q < 60 := b3 q (by rw [eT]; simp)
      have e8 : tk (20 * c + k) = nI q := by rw [e6 k g2, g1]
      have h6 := ih (T0 ++ [q]) (k + 1) (upd fl (62 * r + q) 0) g4 g3 h5
      rw [wX_makeChange_8]
      simp (disch := omega) only [forall_eq, true_and, rm_vin, nI_clamp, rm_62, rm_20, rm_21, rm_22, rm_p60, rm_p61, rm_p22, rm_p2, nI_1, nI_add, nI_pred, pk_m1, e5, nI_leI, e8, rm_nar0]
      exact ⟨fun h => absurd h (by omega), fun _ => h6⟩
  have h7 := key (rm_cT x) [] 0 fl rfl rfl ⟨_, key2 (rm_cP x) [] 0 (rm_cB x) nx (rm_st r 0 fl (rm_cT x)) rfl rfl b1 H⟩
  simp (disch := omega) only [wpX_makeChange, forall_eq, true_and, rm_vin, nI_clamp, rm_62, rm_20, rm_21, rm_22, rm_p60, rm_p61, rm_p22, rm_p2, nI_1, nI_add, nI_pred, pk_m1]
  exact ⟨_, h7⟩
theorem rx_takeBack {post : SX → Prop} {r c : Nat} {x : rm_Ch} (hr : r < 3) (hc : c < 16) (he : rm_EC x bf bh pf pc tc tk c) (hb : rm_BC x) (H : post (nI U, nI M, pl, pt, tx, sr, bf, bh, pf, pc, tc, tk, nd, upd hd r (hd r &&& (((1 : Int32) <<< (nI c &&& 31)) ^^^ (-1))), rm_lnk r nx (rm_cB x) (rm_cT x) (rm_cE x), rm_st r 1 (rm_st r 0 fl (rm_cP x)) (rm_cT x), upd sz r (sz r + (nI (rm_cT x).length - nI (rm_cN x))), cs, cp, ro, mx, mt)) : wpX_takeBack post (nI U, nI M, pl, pt, tx, sr, bf, bh, pf, pc, tc, tk, nd, hd, nx, fl, sz, cs, cp, ro, mx, mt) (nI r) (nI c) := by
  obtain ⟨e1, e2, e3, e4, e5, e6⟩ := he
  obtain ⟨b1, b2, b3, b4, b5, b6⟩ := hb
  have key2 : ∀ (Q P0 : List Nat) (k t : Nat) (nx fl : Nat → Int32), P0.length = k → rm_cT x = P0 ++ Q → t ≤ 60 → post (nI U, nI M, pl, pt, tx, sr, bf, bh, pf, pc, tc, tk, nd, upd hd r (hd r &&& (((1 : Int32) <<< (nI c &&& 31)) ^^^ (-1))), rm_lnk r nx t Q (rm_cE x), rm_st r 1 fl Q, upd sz r (sz r + (nI (rm_cT x).length - nI (rm_cN x))), cs, cp, ro, mx, mt) → wX_takeBack_53 post (nI r) (nI c) (nI (62 * r)) (nI U) (nI M) pl pt (Q.length + 1) (nI t) (nI k) tx sr bf bh pf pc tc tk nd hd nx fl sz cs cp ro mx mt := by
    intro Q
    induction Q with
    | nil =>
      intro P0 k t nx fl hk eT ht h5
      have hk' : (rm_cT x).length = k := by rw [eT, ← hk]; simp
      rw [wX_takeBack_53]
      simp (disch := omega) only [forall_eq, true_and, rm_vin, nI_clamp, rm_62, rm_20, rm_21, rm_22, rm_p60, rm_p61, rm_p22, rm_p2, nI_1, nI_add, nI_pred, pk_m1, e4, e5, nI_leI, e2]
      exact ⟨fun _ => h5, fun h => absurd h (by omega)⟩
    | cons q Q ih =>
      intro P0 k t nx fl hk eT ht h5
      obtain ⟨g1, g2, g3, g4⟩ := rm_gk eT hk
      have hq : q < 60 := b3 q (by rw [eT]; simp)
      have e8 : tk (20 * c + k) = nI q := by rw [e6 k g2, g1]
      have h6 := ih (P0 ++ [q]) (k + 1) q (upd nx (62 * r + t) (nI q)) (upd fl (62 * r + q) 1) g4 g3 (by omega) h5
      rw [wX_takeBack_53]
      simp (disch := omega) only [forall_eq, true_and, rm_vin, nI_clamp, rm_62, rm_20, rm_21, rm_22, rm_p60, rm_p61, rm_p22, rm_p2, nI_1, nI_add, nI_pred, pk_m1, e5, nI_leI, e8, rm_nar1]
      exact ⟨fun h => absurd h (by omega), fun _ => h6⟩
  have key : ∀ (Q T0 : List Nat) (k : Nat) (fl : Nat → Int32), T0.length = k → rm_cP x = T0 ++ Q → (∃ n, wX_takeBack_53 post (nI r) (nI c) (nI (62 * r)) (nI U) (nI M) pl pt n (nI (rm_cB x)) 0 tx sr bf bh pf pc tc tk nd hd nx (rm_st r 0 fl Q) sz cs cp ro mx mt) → wX_takeBack_8 post (nI r) (nI c) (nI (62 * r)) (nI U) (nI M) pl pt (Q.length + 1) (nI k) tx sr bf bh pf pc tc tk nd hd nx fl sz cs cp ro mx mt := by
    intro Q
    induction Q with
    | nil =>
      intro T0 k fl hk eT h5
      have hk' : rm_cN x = k := by rw [← rm_lP, eT, ← hk]; simp
      rw [wX_takeBack_8]
      simp (disch := omega) only [forall_eq, true_and, rm_vin, nI_clamp, rm_62, rm_20, rm_21, rm_22, rm_p60, rm_p61, rm_p22, rm_p2, nI_1, nI_add, nI_pred, pk_m1, e4, nI_leI, e1]
      exact ⟨fun _ => h5, fun h => absurd h (by omega)⟩
    | cons q Q ih =>
      intro T0 k fl hk eT h5
      obtain ⟨g1, g2, g3, g4⟩ := rm_gk eT hk
      obtain ⟨f1, f2⟩ := rm_gP eT hk
      have f3 : 62 * r + rm_cF x + k = 62 * r + q := by omega
      have h6 := ih (T0 ++ [q]) (k + 1) (upd fl (62 * r + q) 0) g4 g3 h5
      rw [wX_takeBack_8]
      simp (disch := omega) only [forall_eq, true_and, rm_vin, nI_clamp, rm_62, rm_20, rm_21, rm_22, rm_p60, rm_p61, rm_p22, rm_p2, nI_1, nI_add, nI_pred, pk_m1, e4, e3, nI_leI, f3, rm_nar0]
      exact ⟨fun h => absurd h (by omega), fun _ => h6⟩
  have h7 := key (rm_cP x) [] 0 fl rfl rfl ⟨_, key2 (rm_cT x) [] 0 (rm_cB x) nx (rm_st r 0 fl (rm_cP x)) rfl rfl b1 H⟩
  simp (disch := omega) only [wpX_takeBack, forall_eq, true_and, rm_vin, nI_clamp, rm_62, rm_20, rm_21, rm_22, rm_p60, rm_p61, rm_p22, rm_p2, nI_1, nI_add, nI_pred, pk_m1]
  exact ⟨_, h7⟩
end
end
section
/-! the reference's walks: rooms, rows, runs -/
theorem rm_pr {a : Nat} (h : 0 < a) : nI a - 1 = nI (a - 1) := pk_sub (b := 1) h
theorem rm_sk (p k : Nat) : nI p - 1 + nI k = nI (p + k) - 1 := by rw [← nI_add]; grind
theorem rm_j1 (j : Nat) : nI j + (-1) = nI j - 1 := by grind
theorem rm_lim {a q p : Nat} (ha : a < 1000) (hq : q < 1000) (hp : p < 1000) : (nI a - nI (q + 2) + 2 < nI p) ↔ a < p + q := by
  have e : nI a - nI (q + 2) + 2 = nI a - nI q := by rw [← rm_p2]; grind
  rw [e, Int32.lt_iff_toInt_lt, pk_sub_toInt (by omega) (by omega), nI_toInt (by omega)]
  omega
theorem rm_dlt {k b : Nat} (hk : k < 1000) (hb : b < 1000) : (nI k - 1 < nI b) ↔ k < b + 1 := by
  have e : nI k - 1 = nI k - nI 1 := rfl
  rw [e, Int32.lt_iff_toInt_lt, pk_sub_toInt (by omega) (by omega), nI_toInt (by omega)]
  omega
theorem rm_dneg {k : Nat} (hk : k < 1000) : (nI k - 1 < 0) ↔ k = 0 := by
  have := rm_dlt (b := 0) hk (by omega)
  have e : nI 0 = 0 := nI_0
  rw [e] at this
  rw [this]
  omega
theorem rm_lstd (x : Nat) (w : List Nat) : ∃ a, x :: w = a ++ [rm_lst x w] ∧ a.length = w.length := by
  induction w generalizing x with
  | nil => exact ⟨[], rfl, rfl⟩
  | cons y w ih =>
    obtain ⟨a, h1, h2⟩ := ih y
    exact ⟨x :: a, by show x :: (y :: w) = x :: (a ++ [rm_lst y w]); rw [← h1], by simp [h2]⟩
theorem rm_mat1 {w1 Q w2 : List Nat} {B E j : Nat} (hB : rm_lst 60 w1 = B) (hE : rm_hdd 61 w2 = E) (hj : j < Q.length + 2) : rm_g (rm_FF (w1 ++ (Q ++ w2))) (w1.length + j) = rm_g (B :: (Q ++ [E])) j := by
  obtain ⟨a, h1, h2⟩ := rm_lstd 60 w1
  rw [rm_FF3, h1, rm_tail 61 w2, hB, hE, List.append_assoc, rm_g_r (by omega), show w1.length + j - a.length = j from by omega]
  have e : [B] ++ (Q ++ E :: (w2 ++ [61]).tail) = (B :: (Q ++ [E])) ++ (w2 ++ [61]).tail := by simp
  rw [e, rm_g_l (by simp; omega)]
theorem rm_mat2 {W Q : List Nat} {B E p : Nat} (hp : p + Q.length ≤ W.length) (h : ∀ j, j < Q.length + 2 → rm_g (rm_FF W) (p + j) = rm_g (B :: (Q ++ [E])) j) : rm_lst 60 (W.take p) = B ∧ rm_hdd 61 (W.drop (p + Q.length)) = E ∧ W = W.take p ++ (Q ++ W.drop (p + Q.length)) := by
  have lt : (W.take p).length = p := by rw [List.length_take]; omega
  have hq : (W.drop p).take Q.length = Q := by
    apply rm_g_ext
    · rw [List.length_take, List.length_drop]; omega
    · intro k hk
      have hk' : k < Q.length := by rw [List.length_take] at hk; omega
      rw [rm_g_take _ _ _ hk', rm_g_drop]
      have h1 := h (k + 1) (by omega)
      rw [← Nat.add_assoc, rm_g_FF1 (by omega)] at h1
      rw [h1]
      show rm_g (Q ++ [E]) k = _
      exact rm_g_l hk'
  have eW : W = W.take p ++ (Q ++ W.drop (p + Q.length)) := by
    have h2 := List.take_append_drop p W
    have h3 := List.take_append_drop Q.length (W.drop p)
    rw [hq, List.drop_drop] at h3
    rw [← h3] at h2
    exact h2.symm
  refine ⟨?_, ?_, eW⟩
  · rw [rm_lst_g, lt]
    have h1 := h 0 (by omega)
    have e3 : rm_FF W = (60 :: W.take p) ++ (W.drop p ++ [61]) := by
      unfold rm_FF
      rw [List.cons_append, ← List.append_assoc, List.take_append_drop]
    rw [e3, Nat.add_zero, rm_g_l (by simp [lt])] at h1
    exact h1
  · have h1 := h (Q.length + 1) (by omega)
    have e2 : rm_g (B :: (Q ++ [E])) (Q.length + 1) = E := by
      show rm_g (Q ++ [E]) Q.length = E
      rw [rm_g_r (Nat.le_refl _), Nat.sub_self]
      rfl
    rw [e2] at h1
    rw [rm_hdd_g, ← h1]
    show _ = rm_g (60 :: (W ++ [61])) (p + (Q.length + 1))
    rw [show p + (Q.length + 1) = (p + Q.length) + 1 from by omega]
    show _ = rm_g (W ++ [61]) (p + Q.length)
    by_cases hlt : p + Q.length < W.length
    · rw [rm_g_l hlt, rm_g_l (by rw [List.length_drop]; omega), rm_g_drop, Nat.add_zero]
    · rw [List.drop_eq_nil_of_le (by omega), rm_g_r (a := W) (by omega), show p + Q.length - W.length = 0 from by omega]
      rfl
def rm_EY (x : rm_Ch) (pu : Nat → Int32) (c : Nat) : Prop := ∀ k, k < rm_cN x → pu (20 * c + k) = nI (rm_cF x + k)
section
variable {U M : Nat} {pl pt ys : Int32} {tx sr bf bh pf pc tc tk nd hd nx fl sz cs cp ro mx mt pu fi wk po my : Nat → Int32}
theorem ry_room_t {post : Int32 → Prop} {r : Nat} (hr : r < 3) (H : post 1) : wpY_isRoom post (nI U, nI M, ys, tx, sr, bf, bh, tc, pc, tk, pu, nd, sz, fi, cs, cp, hd, wk, po, my) (nI r) := by
  unfold wpY_isRoom
  exact br_f (nI_pos (by omega)) (br_f (nI_nlt (b := r) (a := 2) (by omega) (by decide)) H)
theorem ry_room_f {post : Int32 → Prop} {v : Int32} (h : v < 0 ∨ nI 3 ≤ v) (H : post 0) : wpY_isRoom post (nI U, nI M, ys, tx, sr, bf, bh, tc, pc, tk, pu, nd, sz, fi, cs, cp, hd, wk, po, my) v := by
  unfold wpY_isRoom
  refine br_c (fun _ => H) (fun h0 => br_c (fun _ => H) (fun h3 => absurd h ?_))
  intro z
  rcases z with z | z
  · exact h0 z
  · apply h3
    rw [Int32.le_iff_toInt_le, nI_toInt (by decide)] at z
    rw [Int32.lt_iff_toInt_lt, show (2 : Int32).toInt = 2 from by decide]
    omega
theorem ry_chg_t {post : Int32 → Prop} {c : Nat} (hM : M ≤ 16) (hc : c < M) (H : post 1) : wpY_isChange post (nI U, nI M, ys, tx, sr, bf, bh, tc, pc, tk, pu, nd, sz, fi, cs, cp, hd, wk, po, my) (nI c) := by
  unfold wpY_isChange
  exact br_f (nI_pos (by omega)) (br_f (nI_ge hc (by omega)) H)
theorem ry_chg_f {post : Int32 → Prop} {v : Int32} (h : v < 0 ∨ nI M ≤ v) (H : post 0) : wpY_isChange post (nI U, nI M, ys, tx, sr, bf, bh, tc, pc, tk, pu, nd, sz, fi, cs, cp, hd, wk, po, my) v := by
  unfold wpY_isChange
  exact br_c (fun _ => H) (fun h0 => br_c (fun _ => H) (fun h3 => absurd h (by intro z; rcases z with z | z; exact h0 z; exact h3 z)))
theorem ry_in {post : Int32 → Prop} {h : Int32} {c : Nat} (hc : c < 16) (h1 : bt h c = true → post 1) (h0 : bt h c = false → post 0) : wpY_in post (nI U, nI M, ys, tx, sr, bf, bh, tc, pc, tk, pu, nd, sz, fi, cs, cp, hd, wk, po, my) h (nI c) := by
  unfold wpY_in
  cases hb : bt h c
  · exact br_f (rm_bitF (by omega) hb) (h0 hb)
  · exact br_t (rm_bitT (by omega) hb) (h1 hb)
theorem ry_revert {post : Int32 → SY → Prop} {r : Nat} {W : List Nat} (hr : r < 3) (hs : sz r = nI W.length) (hf : ∀ k, k < W.length → fi (20 * r + k) = nI (rm_g W k)) (hl : W.length ≤ 20) (hw : ∀ L, L ∈ W → L < 60) (H : post (nI W.length) (nI U, nI M, ys, tx, sr, bf, bh, tc, pc, tk, pu, nd, sz, fi, upd cs r (nI W.length), rm_wf cp (20 * r) W.length (fun k => tx (rm_g W k)), hd, wk, po, my)) : wpY_revert post (nI U, nI M, ys, tx, sr, bf, bh, tc, pc, tk, pu, nd, sz, fi, cs, cp, hd, wk, po, my) (nI r) := by
  have key : ∀ (d k : Nat), k + d = W.length → wY_revert_24 post (nI r) (nI U) (nI M) ys (d + 1) (nI k) tx sr bf bh tc pc tk pu nd sz fi (upd cs r (nI W.length)) (rm_wf cp (20 * r) k (fun k => tx (rm_g W k))) hd wk po my := by
    intro d
    induction d with
    | zero =>
      intro k hk
      have e1 : k = W.length := by omega
      subst e1
      rw [wY_revert_24]
      simp (disch := omega) only [forall_eq, true_and, rm_vin, nI_clamp, rm_62, rm_20, rm_21, rm_22, rm_p60, rm_p61, rm_p22, rm_p2, nI_1, nI_add, nI_pred, pk_m1, hs, nI_leI, pk_us]
      exact ⟨fun _ => H, fun h => absurd (Nat.le_refl _) h⟩
    | succ d ih =>
      intro k hk
      have hy : rm_g W k < 60 := hw _ (rm_g_mem (by omega))
      have e0 := hf k (by omega)
      have e2 := rm_wfS cp (20 * r) k (fun k => tx (rm_g W k))
      have h5 := ih (k + 1) (by omega)
      rw [wY_revert_24]
      simp (disch := omega) only [forall_eq, true_and, rm_vin, nI_clamp, rm_62, rm_20, rm_21, rm_22, rm_p60, rm_p61, rm_p22, rm_p2, nI_1, nI_add, nI_pred, pk_m1, hs, nI_leI, e0, e2]
      exact ⟨fun h => absurd h (by omega), fun _ => h5⟩
  have h0 := key W.length 0 (by omega)
  rw [rm_wf0] at h0
  simp (disch := omega) only [wpY_revert, forall_eq, true_and, rm_vin, nI_clamp, rm_62, rm_20, rm_21, rm_22, rm_p60, rm_p61, rm_p22, rm_p2, nI_1, nI_add, nI_pred, pk_m1, hs]
  exact ry_room_t hr (br_f rm_i10 ⟨_, h0⟩)
theorem ry_open {post : SY → Prop} {r : Nat} {W : List Nat} (hr : r < 3) (hs : sz r = nI W.length) (hf : ∀ k, k < W.length → fi (20 * r + k) = nI (rm_g W k)) (hl : W.length ≤ 20) (H : post (nI U, nI M, nI W.length, tx, sr, bf, bh, tc, pc, tk, pu, nd, sz, fi, cs, cp, hd, rm_wf wk 0 W.length (fun k => nI (rm_g W k)), po, my)) : wpY_open post (nI U, nI M, ys, tx, sr, bf, bh, tc, pc, tk, pu, nd, sz, fi, cs, cp, hd, wk, po, my) (nI r) := by
  have key : ∀ (d k : Nat), k + d = W.length → wY_open_12 post (nI r) (nI U) (nI M) (nI W.length) (d + 1) (nI k) tx sr bf bh tc pc tk pu nd sz fi cs cp hd (rm_wf wk 0 k (fun k => nI (rm_g W k))) po my := by
    intro d
    induction d with
    | zero =>
      intro k hk
      have e1 : k = W.length := by omega
      subst e1
      rw [wY_open_12]
      simp (disch := omega) only [forall_eq, true_and, rm_vin, nI_clamp, rm_62, rm_20, rm_21, rm_22, rm_p60, rm_p61, rm_p22, rm_p2, nI_1, nI_add, nI_pred, pk_m1, nI_leI]
      exact ⟨fun _ => H, fun h => absurd (Nat.le_refl _) h⟩
    | succ d ih =>
      intro k hk
      have e0 := hf k (by omega)
      have e2 := rm_wfS0 wk k (fun k => nI (rm_g W k))
      have h5 := ih (k + 1) (by omega)
      rw [wY_open_12]
      simp (disch := omega) only [forall_eq, true_and, rm_vin, nI_clamp, rm_62, rm_20, rm_21, rm_22, rm_p60, rm_p61, rm_p22, rm_p2, nI_1, nI_add, nI_pred, pk_m1, nI_leI, e0, e2]
      exact ⟨fun h => absurd h (by omega), fun _ => h5⟩
  have h0 := key W.length 0 (by omega)
  rw [rm_wf0] at h0
  simp (disch := omega) only [wpY_open, forall_eq, true_and, rm_vin, nI_clamp, rm_62, rm_20, rm_21, rm_22, rm_p60, rm_p61, rm_p22, rm_p2, nI_1, nI_add, nI_pred, pk_m1, hs]
  exact ⟨_, h0⟩
theorem ry_keep {post : SY → Prop} {r : Nat} {W : List Nat} (hr : r < 3) (hf : ∀ k, k < W.length → wk k = nI (rm_g W k)) (hl : W.length ≤ 20) (H : post (nI U, nI M, nI W.length, tx, sr, bf, bh, tc, pc, tk, pu, nd, upd sz r (nI W.length), rm_wf fi (20 * r) W.length (fun k => nI (rm_g W k)), cs, cp, hd, wk, po, my)) : wpY_keep post (nI U, nI M, nI W.length, tx, sr, bf, bh, tc, pc, tk, pu, nd, sz, fi, cs, cp, hd, wk, po, my) (nI r) := by
  have key : ∀ (d k : Nat), k + d = W.length → wY_keep_12 post (nI r) (nI U) (nI M) (nI W.length) (d + 1) (nI k) tx sr bf bh tc pc tk pu nd (upd sz r (nI W.length)) (rm_wf fi (20 * r) k (fun k => nI (rm_g W k))) cs cp hd wk po my := by
    intro d
    induction d with
    | zero =>
      intro k hk
      have e1 : k = W.length := by omega
      subst e1
      rw [wY_keep_12]
      simp (disch := omega) only [forall_eq, true_and, rm_vin, nI_clamp, rm_62, rm_20, rm_21, rm_22, rm_p60, rm_p61, rm_p22, rm_p2, nI_1, nI_add, nI_pred, pk_m1, nI_leI]
      exact ⟨fun _ => H, fun h => absurd (Nat.le_refl _) h⟩
    | succ d ih =>
      intro k hk
      have e0 := hf k (by omega)
      have e2 := rm_wfS fi (20 * r) k (fun k => nI (rm_g W k))
      have h5 := ih (k + 1) (by omega)
      rw [wY_keep_12]
      simp (disch := omega) only [forall_eq, true_and, rm_vin, nI_clamp, rm_62, rm_20, rm_21, rm_22, rm_p60, rm_p61, rm_p22, rm_p2, nI_1, nI_add, nI_pred, pk_m1, nI_leI, e0, e2]
      exact ⟨fun h => absurd h (by omega), fun _ => h5⟩
  have h0 := key W.length 0 (by omega)
  rw [rm_wf0] at h0
  simp (disch := omega) only [wpY_keep, forall_eq, true_and, rm_vin, nI_clamp, rm_62, rm_20, rm_21, rm_22, rm_p60, rm_p61, rm_p22, rm_p2, nI_1, nI_add, nI_pred, pk_m1]
  exact ⟨_, h0⟩
theorem ry_len0 {post : Int32 → Prop} {c : Nat} {x : rm_Ch} (hc : c < 16) (he : rm_EC x bf bh pf pc tc tk c) (H : post (nI ((rm_cT x).length + 2))) : wpY_length post (nI U, nI M, ys, tx, sr, bf, bh, tc, pc, tk, pu, nd, sz, fi, cs, cp, hd, wk, po, my) (nI c) 0 := by
  simp (disch := omega) only [wpY_length, forall_eq, true_and, rm_vin, nI_clamp, rm_62, rm_20, rm_21, rm_22, rm_p60, rm_p61, rm_p22, rm_p2, nI_1, nI_add, nI_pred, pk_m1, he.2.2.2.2.1]
  exact br_t (by trivial) H
theorem ry_len1 {post : Int32 → Prop} {c : Nat} {x : rm_Ch} (hc : c < 16) (he : rm_EC x bf bh pf pc tc tk c) (H : post (nI ((rm_cP x).length + 2))) : wpY_length post (nI U, nI M, ys, tx, sr, bf, bh, tc, pc, tk, pu, nd, sz, fi, cs, cp, hd, wk, po, my) (nI c) 1 := by
  rw [rm_lP] at H
  simp (disch := omega) only [wpY_length, forall_eq, true_and, rm_vin, nI_clamp, rm_62, rm_20, rm_21, rm_22, rm_p60, rm_p61, rm_p22, rm_p2, nI_1, nI_add, nI_pred, pk_m1, he.2.2.2.1]
  exact br_f rm_i10 H
theorem ry_mem0 {post : Int32 → Prop} {c k : Nat} {x : rm_Ch} (hc : c < 16) (he : rm_EC x bf bh pf pc tc tk c) (hb : rm_BC x) (hk : k ≤ (rm_cT x).length + 1) (H : post (nI (rm_g (rm_cB x :: (rm_cT x ++ [rm_cE x])) k))) : wpY_member post (nI U, nI M, ys, tx, sr, bf, bh, tc, pc, tk, pu, nd, sz, fi, cs, cp, hd, wk, po, my) (nI c) 0 (nI k) := by
  obtain ⟨e1, e2, e3, e4, e5, e6⟩ := he
  obtain ⟨b1, b2, b3, b4, b5, b6⟩ := hb
  cases k with
  | zero =>
    simp (disch := omega) only [wpY_member, forall_eq, true_and, rm_vin, nI_clamp, rm_62, rm_20, rm_21, rm_22, rm_p60, rm_p61, rm_p22, rm_p2, nI_1, nI_add, nI_pred, pk_m1, e1]
    exact br_t (by trivial) H
  | succ j =>
    have H' : post (nI (rm_g (rm_cT x ++ [rm_cE x]) j)) := H
    have h0 : ¬ nI (j + 1) = 0 := nI_ne0 (by omega) (by omega)
    have i1 : 20 * c + (j + 1) - 1 = 20 * c + j := by omega
    simp (disch := omega) only [wpY_member, wY_member_30, forall_eq, true_and, rm_vin, nI_clamp, rm_62, rm_20, rm_21, rm_22, rm_p60, rm_p61, rm_p22, rm_p2, nI_1, nI_add, nI_pred, pk_m1, e5, e2, nI_leI, rm_pr, i1]
    refine br_f h0 (br_t (by trivial) ⟨fun h => br_t (by trivial) ?_, fun h => ?_⟩)
    · rw [rm_g_l (by omega)] at H'
      simp (disch := omega) only [forall_eq, true_and, rm_vin, nI_clamp, rm_62, rm_20, rm_21, rm_22, rm_p60, rm_p61, rm_p22, rm_p2, nI_1, nI_add, nI_pred, pk_m1, e6 j (by omega)]
      exact H'
    · rw [rm_g_r (by omega), show j - (rm_cT x).length = 0 from by omega] at H'
      exact H'
theorem ry_mem1 {post : Int32 → Prop} {c k : Nat} {x : rm_Ch} (hc : c < 16) (he : rm_EC x bf bh pf pc tc tk c) (hp : rm_EY x pu c) (hb : rm_BC x) (hk : k ≤ (rm_cP x).length + 1) (H : post (nI (rm_g (rm_cB x :: (rm_cP x ++ [rm_cE x])) k))) : wpY_member post (nI U, nI M, ys, tx, sr, bf, bh, tc, pc, tk, pu, nd, sz, fi, cs, cp, hd, wk, po, my) (nI c) 1 (nI k) := by
  obtain ⟨e1, e2, e3, e4, e5, e6⟩ := he
  obtain ⟨b1, b2, b3, b4, b5, b6⟩ := hb
  rw [rm_lP] at hk
  cases k with
  | zero =>
    simp (disch := omega) only [wpY_member, forall_eq, true_and, rm_vin, nI_clamp, rm_62, rm_20, rm_21, rm_22, rm_p60, rm_p61, rm_p22, rm_p2, nI_1, nI_add, nI_pred, pk_m1, e1]
    exact br_t (by trivial) H
  | succ j =>
    have H' : post (nI (rm_g (rm_cP x ++ [rm_cE x]) j)) := H
    have h0 : ¬ nI (j + 1) = 0 := nI_ne0 (by omega) (by omega)
    have i1 : 20 * c + (j + 1) - 1 = 20 * c + j := by omega
    simp (disch := omega) only [wpY_member, wY_member_30, forall_eq, true_and, rm_vin, nI_clamp, rm_62, rm_20, rm_21, rm_22, rm_p60, rm_p61, rm_p22, rm_p2, nI_1, nI_add, nI_pred, pk_m1, e4, e2, nI_leI, rm_pr, i1]
    refine br_f h0 (br_f rm_i10 ⟨fun h => br_f rm_i10 ?_, fun h => ?_⟩)
    · rw [rm_g_l (by rw [rm_lP]; omega)] at H'
      have e9 : rm_g (rm_cP x) j = rm_cF x + j := rm_g_range' _ _ _ (by omega)
      rw [e9, ← hp j (by omega)] at H'
      simp (disch := omega) only [forall_eq, true_and, rm_vin, nI_clamp, rm_62, rm_20, rm_21, rm_22, rm_p60, rm_p61, rm_p22, rm_p2, nI_1, nI_add, nI_pred, pk_m1]
      exact H'
    · rw [rm_g_r (by rw [rm_lP]; omega), rm_lP, show j - rm_cN x = 0 from by omega] at H'
      exact H'
theorem ry_inWork {post : Int32 → Prop} {q : Nat} {W : List Nat} (hl : W.length ≤ 20) (hf : ∀ k, k < W.length → wk k = nI (rm_g W k)) (hq : q ≤ W.length + 1) (H : post (nI (rm_g (rm_FF W) q))) : wpY_inWork post (nI U, nI M, nI W.length, tx, sr, bf, bh, tc, pc, tk, pu, nd, sz, fi, cs, cp, hd, wk, po, my) (nI q - 1) := by
  cases q with
  | zero =>
    simp only [wpY_inWork]
    exact br_f (by decide) H
  | succ j =>
    rw [nI_pred]
    simp (disch := omega) only [wpY_inWork, forall_eq, true_and, rm_vin, nI_clamp, rm_62, rm_20, rm_21, rm_22, rm_p60, rm_p61, rm_p22, rm_p2, nI_1, nI_add, nI_pred, pk_m1, nI_leI]
    refine br_t (nI_pos' (by omega)) ⟨fun h => ?_, fun h => ?_⟩
    · have : j = W.length := by omega
      rw [this, rm_g_FF2] at H
      exact H
    · rw [rm_g_FF1 (by omega)] at H
      simp (disch := omega) only [forall_eq, true_and, rm_vin, nI_clamp, rm_62, rm_20, rm_21, rm_22, rm_p60, rm_p61, rm_p22, rm_p2, nI_1, nI_add, nI_pred, pk_m1, hf j (by omega)]
      exact H
theorem rm_g_le {l : List Nat} {b k : Nat} (h : ∀ L, L ∈ l → L ≤ b) : rm_g l k ≤ b := by
  induction l generalizing k with
  | nil => exact Nat.zero_le _
  | cons y l ih =>
    cases k with
    | zero => exact h y List.mem_cons_self
    | succ k => exact ih (fun L hL => h L (List.mem_cons_of_mem _ hL))
theorem rm_FF_le {W : List Nat} (hw : ∀ L, L ∈ W → L < 60) {k : Nat} : rm_g (rm_FF W) k ≤ 61 := by
  apply rm_g_le
  intro L hL
  rcases List.mem_cons.mp hL with a | a
  · omega
  · rcases List.mem_append.mp a with a | a
    · have := hw L a; omega
    · have : L = 61 := by simpa using a
      omega
theorem ry_placeOf {post : Int32 → Prop} {c B E : Nat} {b : Int32} {W Q : List Nat} (hc : c < 16) (hl : W.length ≤ 20) (hw : ∀ L, L ∈ W → L < 60) (hn : (rm_FF W).Nodup) (hf : ∀ k, k < W.length → wk k = nI (rm_g W k)) (hq : Q.length ≤ 20) (hR : ∀ L, L ∈ B :: (Q ++ [E]) → L ≤ 61)
    (hlen : ∀ {post : Int32 → Prop}, post (nI (Q.length + 2)) → wpY_length post (nI U, nI M, nI W.length, tx, sr, bf, bh, tc, pc, tk, pu, nd, sz, fi, cs, cp, hd, wk, po, my) (nI c) b) (hmem : ∀ {post : Int32 → Prop} {k : Nat}, k ≤ Q.length + 1 → post (nI (rm_g (B :: (Q ++ [E])) k)) → wpY_member post (nI U, nI M, nI W.length, tx, sr, bf, bh, tc, pc, tk, pu, nd, sz, fi, cs, cp, hd, wk, po, my) (nI c) b (nI k))
    (h1 : ∀ w1 w2, rm_lst 60 w1 = B → rm_hdd 61 w2 = E → W = w1 ++ (Q ++ w2) → post (nI w1.length)) (h0 : ¬ rm_Std W B E Q → post (-1)) : wpY_placeOf post (nI U, nI M, nI W.length, tx, sr, bf, bh, tc, pc, tk, pu, nd, sz, fi, cs, cp, hd, wk, po, my) (nI c) b := by
  have in0 : ∀ (J : Int32 → Prop) (p d k : Nat), k + d = Q.length + 2 → J (nI (p + 1)) → wY_placeOf_29 post J (nI c) b (nI (Q.length + 2)) (nI p) (nI U) (nI M) (nI W.length) tx sr bf bh tc pc tk pu nd sz fi cs cp hd wk po my (d + 1) 0 (nI k) := by
    intro J p d
    induction d with
    | zero =>
      intro k hk hJ
      rw [wY_placeOf_29]
      simp (disch := omega) only [forall_eq, true_and, rm_vin, nI_clamp, rm_62, rm_20, rm_21, rm_22, rm_p60, rm_p61, rm_p22, rm_p2, nI_1, nI_add, nI_pred, pk_m1, nI_leI]
      exact ⟨fun _ => br_t (by trivial) hJ, fun h => absurd h (by omega)⟩
    | succ d ih =>
      intro k hk hJ
      have h5 := ih (k + 1) (by omega) hJ
      rw [wY_placeOf_29]
      simp (disch := omega) only [forall_eq, true_and, rm_vin, nI_clamp, rm_62, rm_20, rm_21, rm_22, rm_p60, rm_p61, rm_p22, rm_p2, nI_1, nI_add, nI_pred, pk_m1, nI_leI]
      exact ⟨fun h => absurd h (by omega), fun _ => br_t (by trivial) h5⟩
  have in1 : ∀ (J : Int32 → Prop) (p : Nat), p + Q.length ≤ W.length → ∀ (d k : Nat), k + d = Q.length + 2 → ((∀ j, k ≤ j → j < Q.length + 2 → rm_g (rm_FF W) (p + j) = rm_g (B :: (Q ++ [E])) j) → post (nI p)) → (¬ (∀ j, k ≤ j → j < Q.length + 2 → rm_g (rm_FF W) (p + j) = rm_g (B :: (Q ++ [E])) j) → J (nI (p + 1))) → wY_placeOf_29 post J (nI c) b (nI (Q.length + 2)) (nI p) (nI U) (nI M) (nI W.length) tx sr bf bh tc pc tk pu nd sz fi cs cp hd wk po my (d + 1) 1 (nI k) := by
    intro J p hp d
    induction d with
    | zero =>
      intro k hk hy hno
      have h5 := hy (fun j a b => by omega)
      rw [wY_placeOf_29]
      simp (disch := omega) only [forall_eq, true_and, rm_vin, nI_clamp, rm_62, rm_20, rm_21, rm_22, rm_p60, rm_p61, rm_p22, rm_p2, nI_1, nI_add, nI_pred, pk_m1, nI_leI]
      exact ⟨fun _ => br_f rm_i10 h5, fun h => absurd h (by omega)⟩
    | succ d ih =>
      intro k hk hy hno
      rw [wY_placeOf_29]
      simp (disch := omega) only [forall_eq, true_and, rm_vin, nI_clamp, rm_62, rm_20, rm_21, rm_22, rm_p60, rm_p61, rm_p22, rm_p2, nI_1, nI_add, nI_pred, pk_m1, nI_leI, rm_sk]
      refine ⟨fun h => absurd h (by omega), fun _ => br_f rm_i10 (ry_inWork hl hf (by omega) (hmem (by omega) ?_))⟩
      have a1 := rm_FF_le hw (k := p + k)
      have a2 := rm_g_le (k := k) hR
      by_cases hk2 : rm_g (rm_FF W) (p + k) = rm_g (B :: (Q ++ [E])) k
      · rw [hk2]
        refine br_t (by trivial) (ih (k + 1) (by omega) ?_ ?_)
        · intro hj
          apply hy
          intro j ha hb
          by_cases e : j = k
          · subst e; exact hk2
          · exact hj j (by omega) hb
        · intro hj
          apply hno
          intro hz
          exact hj (fun j ha hb => hz j (by omega) hb)
      · refine br_f (fun z => hk2 ((nI_eq (by omega) (by omega)).mp z)) (in0 J p d (k + 1) (by omega) (hno ?_))
        intro hz
        exact hk2 (hz k (Nat.le_refl _) (by omega))
  have out : ∀ (d p : Nat), p + Q.length + d = W.length + 1 → (∀ w1 w2, rm_lst 60 w1 = B → rm_hdd 61 w2 = E → W = w1 ++ (Q ++ w2) → p ≤ w1.length) → wY_placeOf_10 post (nI c) b (nI (Q.length + 2)) (nI U) (nI M) (nI W.length) tx sr bf bh tc pc tk pu nd sz fi cs cp hd wk po my (d + 1) (nI p) := by
    intro d
    induction d with
    | zero =>
      intro p hp hm
      rw [wY_placeOf_10]
      simp (disch := omega) only [rm_lim]
      refine ⟨fun _ => h0 ?_, fun h => absurd h (by omega)⟩
      intro hs
      obtain ⟨w1, w2, g1, g2, g3⟩ := hs
      have := hm w1 w2 g1 g2 g3
      have : W.length = w1.length + (Q.length + w2.length) := by rw [g3]; simp
      omega
    | succ d ih =>
      intro p hp hm
      rw [wY_placeOf_10]
      simp (disch := omega) only [rm_lim]
      refine ⟨fun h => absurd h (by omega), fun _ => ⟨Q.length + 2 + 1, in1 _ p (by omega) (Q.length + 2) 0 (by omega) ?_ ?_⟩⟩
      · intro hj
        obtain ⟨m1, m2, m3⟩ := rm_mat2 (by omega) (fun j hj2 => hj j (Nat.zero_le _) hj2)
        have h5 := h1 _ _ m1 m2 m3
        rw [List.length_take, show min p W.length = p from by omega] at h5
        exact h5
      · intro hj
        refine ih (p + 1) (by omega) ?_
        intro w1 w2 g1 g2 g3
        have h6 := hm w1 w2 g1 g2 g3
        by_cases e : p = w1.length
        · exfalso
          apply hj
          intro j _ hj2
          rw [e]
          have := rm_mat1 (Q := Q) (j := j) g1 g2 hj2
          rw [← g3] at this
          exact this
        · omega
  unfold wpY_placeOf
  apply hlen
  by_cases hs : Q.length ≤ W.length
  · exact ⟨_, out (W.length + 1 - Q.length) 0 (by omega) (fun _ _ _ _ _ => Nat.zero_le _)⟩
  · refine ⟨1, ?_⟩
    have h7 : wY_placeOf_10 post (nI c) b (nI (Q.length + 2)) (nI U) (nI M) (nI W.length) tx sr bf bh tc pc tk pu nd sz fi cs cp hd wk po my (0 + 1) (nI 0) := by
      rw [wY_placeOf_10]
      simp (disch := omega) only [rm_lim]
      refine ⟨fun _ => h0 ?_, fun h => absurd h (by omega)⟩
      intro hs2
      obtain ⟨w1, w2, g1, g2, g3⟩ := hs2
      have : W.length = w1.length + (Q.length + w2.length) := by rw [g3]; simp
      omega
    exact h7
end
end
section
/-! the reference's walk: a run replaced in the file at hand -/
theorem rm_m2 (n : Nat) : nI (n + 2) - 2 = nI n := pk_sub (a := n + 2) (b := 2) (by omega)
section
variable {U M : Nat} {pl pt ys : Int32} {tx sr bf bh pf pc tc tk nd hd nx fl sz cs cp ro mx mt pu fi wk po my : Nat → Int32}
theorem ry_replace {post : SY → Prop} {c B E p o m t : Nat} {b b' : Int32} {w1 Q Q' w2 : List Nat} (hbb : (b = 0 ∧ b' = 1) ∨ (b = 1 ∧ b' = 0)) (hc : c < 16) (hp : w1.length = p) (ho : Q.length = o) (hm : Q'.length = m) (ht : w2.length = t) (hl : p + o + t ≤ 20) (hl' : p + m + t ≤ 20)
    (hf : ∀ k, k < p + o + t → wk k = nI (rm_g (w1 ++ (Q ++ w2)) k))
    (hlen : ∀ {post : Int32 → Prop} {ys : Int32} {wk : Nat → Int32}, post (nI (o + 2)) → wpY_length post (nI U, nI M, ys, tx, sr, bf, bh, tc, pc, tk, pu, nd, sz, fi, cs, cp, hd, wk, po, my) (nI c) b) (hlen' : ∀ {post : Int32 → Prop} {ys : Int32} {wk : Nat → Int32}, post (nI (m + 2)) → wpY_length post (nI U, nI M, ys, tx, sr, bf, bh, tc, pc, tk, pu, nd, sz, fi, cs, cp, hd, wk, po, my) (nI c) b')
    (hmem : ∀ {post : Int32 → Prop} {ys : Int32} {wk : Nat → Int32} {k : Nat}, k ≤ m + 1 → post (nI (rm_g (B :: (Q' ++ [E])) k)) → wpY_member post (nI U, nI M, ys, tx, sr, bf, bh, tc, pc, tk, pu, nd, sz, fi, cs, cp, hd, wk, po, my) (nI c) b' (nI k))
    (H : ∀ wk : Nat → Int32, (∀ k, k < p + m + t → wk k = nI (rm_g (w1 ++ (Q' ++ w2)) k)) → post (nI U, nI M, nI (p + m + t), tx, sr, bf, bh, tc, pc, tk, pu, nd, sz, fi, cs, cp, hd, wk, po, my)) : wpY_replace post (nI U, nI M, nI (p + o + t), tx, sr, bf, bh, tc, pc, tk, pu, nd, sz, fi, cs, cp, hd, wk, po, my) (nI c) b (nI p) := by
  have gW : ∀ j, j < p → rm_g (w1 ++ (Q' ++ w2)) j = rm_g (w1 ++ (Q ++ w2)) j := by
    intro j hj
    rw [rm_g_l (by omega), rm_g_l (by omega)]
  have gV : ∀ j, p + o ≤ j → j < p + o + t → rm_g (w1 ++ (Q' ++ w2)) (j + m - o) = rm_g (w1 ++ (Q ++ w2)) j := by
    intro j h1 h2
    rw [rm_g_r (by omega), rm_g_r (by omega), rm_g_r (by omega), rm_g_r (by omega)]
    congr 1
    omega
  have gQ : ∀ j, j < m → rm_g (w1 ++ (Q' ++ w2)) (p + j) = rm_g Q' j := by
    intro j hj
    rw [rm_g_r (by omega), rm_g_l (by omega)]
    congr 1
    omega
  have k141 : ∀ (d k : Nat) (wk : Nat → Int32), k + d = m → (∀ j, j < p → wk j = nI (rm_g (w1 ++ (Q ++ w2)) j)) → (∀ j, j < k → wk (p + j) = nI (rm_g Q' j)) → (∀ j, p + o ≤ j → j < p + o + t → wk (j + m - o) = nI (rm_g (w1 ++ (Q ++ w2)) j)) → wY_replace_141 post (nI c) b (nI p) (nI m) (nI U) (nI M) (nI (p + m + t)) (d + 1) (nI k) tx sr bf bh tc pc tk pu nd sz fi cs cp hd wk po my := by
    intro d
    induction d with
    | zero =>
      intro k wk hk i1 i2 i3
      have h5 := H wk (by
        intro j hj
        by_cases c1 : j < p
        · rw [i1 j c1, gW j c1]
        · by_cases c2 : j < p + m
          · have h6 := i2 (j - p) (by omega)
            have h7 := gQ (j - p) (by omega)
            rw [show p + (j - p) = j from by omega] at h6 h7
            rw [h6, h7]
          · have h6 := i3 (j + o - m) (by omega) (by omega)
            have h7 := gV (j + o - m) (by omega) (by omega)
            rw [show j + o - m + m - o = j from by omega] at h6 h7
            rw [h6, h7])
      rw [wY_replace_141]
      simp (disch := omega) only [forall_eq, true_and, rm_vin, nI_clamp, rm_62, rm_20, rm_21, rm_22, rm_p60, rm_p61, rm_p22, rm_p2, nI_1, nI_add, nI_pred, pk_m1, nI_leI]
      exact ⟨fun _ => h5, fun h => absurd h (by omega)⟩
    | succ d ih =>
      intro k wk hk i1 i2 i3
      have h5 := ih (k + 1) (upd wk (p + k) (nI (rm_g Q' k))) (by omega) (by
        intro j hj
        rw [pk_un (by omega)]
        exact i1 j hj) (by
        intro j hj
        by_cases e : j = k
        · subst e; exact pk_us
        · rw [pk_un (by omega)]
          exact i2 j (by omega)) (by
        intro j h1 h2
        rw [pk_un (by omega)]
        exact i3 j h1 h2)
      have eg : rm_g (B :: (Q' ++ [E])) (k + 1) = rm_g Q' k := by
        show rm_g (Q' ++ [E]) k = _
        exact rm_g_l (by omega)
      rw [wY_replace_141]
      simp (disch := omega) only [wY_replace_167, forall_eq, true_and, rm_vin, nI_clamp, rm_62, rm_20, rm_21, rm_22, rm_p60, rm_p61, rm_p22, rm_p2, nI_1, nI_add, nI_pred, pk_m1, nI_leI]
      refine ⟨fun h => absurd h (by omega), fun _ => ?_⟩
      rcases hbb with ⟨rfl, rfl⟩ | ⟨rfl, rfl⟩
      · refine br_t (by trivial) (hmem (by omega) ?_)
        rw [eg]
        exact h5
      · refine br_f rm_i10 (hmem (by omega) ?_)
        rw [eg]
        exact h5
  have k105 : ∀ (d k : Nat) (wk : Nat → Int32), k + d = p + o + t → p + o ≤ k → m ≤ o → (∀ j, j < p → wk j = nI (rm_g (w1 ++ (Q ++ w2)) j)) → (∀ j, p + o ≤ j → j < k → wk (j + m - o) = nI (rm_g (w1 ++ (Q ++ w2)) j)) → (∀ j, k ≤ j → j < p + o + t → wk j = nI (rm_g (w1 ++ (Q ++ w2)) j)) → wY_replace_105 post (nI c) b (nI p) (nI o) (nI m) (nI (p + o + t)) (nI U) (nI M) (nI (p + m + t)) (d + 1) (nI k) tx sr bf bh tc pc tk pu nd sz fi cs cp hd wk po my := by
    intro d
    induction d with
    | zero =>
      intro k wk hk hpk hmo i1 i2 i3
      have h5 := k141 m 0 wk (by omega) i1 (fun j hj => absurd hj (by omega)) (fun j h1 h2 => i2 j h1 (by omega))
      rw [wY_replace_105]
      simp (disch := omega) only [forall_eq, true_and, rm_vin, nI_clamp, rm_62, rm_20, rm_21, rm_22, rm_p60, rm_p61, rm_p22, rm_p2, nI_1, nI_add, nI_pred, pk_m1, nI_leI]
      exact ⟨fun _ => ⟨_, h5⟩, fun h => absurd h (by omega)⟩
    | succ d ih =>
      intro k wk hk hpk hmo i1 i2 i3
      have e0 := i3 k (Nat.le_refl _) (by omega)
      have h5 := ih (k + 1) (upd wk (k + m - o) (nI (rm_g (w1 ++ (Q ++ w2)) k))) (by omega) (by omega) hmo (by
        intro j hj
        rw [pk_un (by omega)]
        exact i1 j hj) (by
        intro j h1 h2
        by_cases e : j = k
        · subst e; exact pk_us
        · rw [pk_un (by omega)]
          exact i2 j h1 (by omega)) (by
        intro j h1 h2
        rw [pk_un (by omega)]
        exact i3 j (by omega) h2)
      rw [wY_replace_105]
      simp (disch := omega) only [forall_eq, true_and, rm_vin, nI_clamp, rm_62, rm_20, rm_21, rm_22, rm_p60, rm_p61, rm_p22, rm_p2, nI_1, nI_add, nI_pred, pk_m1, nI_leI, pk_sub, e0]
      exact ⟨fun h => absurd h (by omega), fun _ => h5⟩
  have k61 : ∀ (d k : Nat) (wk : Nat → Int32), p + o + d = k → k ≤ p + o + t → o < m → (∀ j, j < k → wk j = nI (rm_g (w1 ++ (Q ++ w2)) j)) → (∀ j, k ≤ j → j < p + o + t → wk (j + m - o) = nI (rm_g (w1 ++ (Q ++ w2)) j)) → wY_replace_61 post (nI c) b (nI p) (nI o) (nI m) (nI U) (nI M) (nI (p + m + t)) (d + 1) (nI k - 1) tx sr bf bh tc pc tk pu nd sz fi cs cp hd wk po my := by
    intro d
    induction d with
    | zero =>
      intro k wk hk hkt hmo i1 i2
      have h5 := k141 m 0 wk (by omega) (fun j hj => i1 j (by omega)) (fun j hj => absurd hj (by omega)) (fun j h1 h2 => i2 j (by omega) h2)
      rw [wY_replace_61]
      simp (disch := omega) only [nI_add, rm_dlt]
      exact ⟨fun _ => ⟨_, h5⟩, fun h => absurd h (by omega)⟩
    | succ d ih =>
      intro k wk hk hkt hmo i1 i2
      obtain ⟨j0, rfl⟩ : ∃ j0, k = j0 + 1 := ⟨k - 1, by omega⟩
      have e0 := i1 j0 (by omega)
      have h5 := ih j0 (upd wk (j0 + m - o) (nI (rm_g (w1 ++ (Q ++ w2)) j0))) (by omega) (by omega) hmo (by
        intro j hj
        rw [pk_un (by omega)]
        exact i1 j (by omega)) (by
        intro j h1 h2
        by_cases e : j = j0
        · subst e; exact pk_us
        · rw [pk_un (by omega)]
          exact i2 j (by omega) h2)
      rw [nI_pred]
      rw [wY_replace_61]
      simp (disch := omega) only [forall_eq, true_and, rm_vin, nI_clamp, nI_add, nI_ltI, pk_sub, e0, rm_j1]
      exact ⟨fun h => absurd h (by omega), fun _ => h5⟩
  have hz : p + o + t - o + m = p + m + t := by omega
  have k21 : ∀ (z0 : Int32), z0 = b' → wY_replace_21 post (nI c) b (nI p) (nI o) z0 (nI c) (nI U) (nI M) (nI (p + o + t)) tx sr bf bh tc pc tk pu nd sz fi cs cp hd wk po my := by
    intro z0 ez
    subst ez
    unfold wY_replace_21
    apply hlen'
    simp (disch := omega) only [forall_eq, true_and, rm_vin, nI_clamp, rm_62, rm_20, rm_21, rm_22, rm_p60, rm_p61, rm_p22, rm_p2, nI_1, nI_add, nI_pred, pk_m1, rm_m2, pk_sub, hz, nI_leI]
    refine ⟨fun h => ?_, fun h => ?_⟩
    · exact ⟨_, k105 t (p + o) wk (by omega) (by omega) h (fun j hj => hf j (by omega)) (fun j h1 h2 => absurd h2 (by omega)) (fun j h1 h2 => hf j h2)⟩
    · refine ⟨t + 1, ?_⟩
      have h5 := k61 t (p + o + t) wk (by omega) (by omega) (by omega) (fun j hj => hf j hj) (fun j h1 h2 => absurd h2 (by omega))
      first
        | exact h5
        | (rw [rm_pr (by omega)] at h5; exact h5)
  unfold wpY_replace
  apply hlen
  simp (disch := omega) only [forall_eq, rm_m2]
  rcases hbb with ⟨rfl, rfl⟩ | ⟨rfl, rfl⟩
  · exact br_t (by trivial) (k21 1 rfl)
  · exact br_f rm_i10 (k21 0 rfl)
end
end
section
/-! makers and needs, both sides -/
def rm_fo : Option Nat → Int32
  | none => -1
  | some d => nI d
theorem rm_adj_range (u v E : Nat) : ∀ n a : Nat, rm_adj u v a (List.range' (a + 1) n ++ [E]) = decide (a ≤ u ∧ u ≤ a + n ∧ v = (if u = a + n then E else u + 1)) := by
  intro n
  induction n with
  | zero =>
    intro a
    show ((decide (a = u) && decide (E = v)) || false) = _
    rw [Bool.or_false, ← Bool.decide_and]
    apply decide_eq_decide.mpr
    constructor
    · intro h
      obtain ⟨rfl, rfl⟩ := h
      exact ⟨by omega, by omega, by rw [if_pos (by omega)]⟩
    · intro h
      obtain ⟨h1, h2, h3⟩ := h
      rw [if_pos (by omega)] at h3
      exact ⟨by omega, h3.symm⟩
  | succ n ih =>
    intro a
    rw [List.range'_succ, List.cons_append]
    show ((decide (a = u) && decide (a + 1 = v)) || rm_adj u v (a + 1) (List.range' (a + 1 + 1) n ++ [E])) = _
    rw [ih (a + 1), ← Bool.decide_and, ← Bool.decide_or]
    apply decide_eq_decide.mpr
    by_cases c : u = a + (n + 1)
    · rw [if_pos (show u = a + 1 + n from by omega), if_pos c]; omega
    · rw [if_neg (show ¬ u = a + 1 + n from by omega), if_neg c]; omega
theorem rm_af_0 {u v : Nat} {x : rm_Ch} (h : rm_cN x = 0) : rm_af u v x = decide (rm_cB x = u ∧ rm_cE x = v) := by
  unfold rm_af rm_cP
  rw [h]
  show ((decide (rm_cB x = u) && decide (rm_cE x = v)) || false) = _
  rw [Bool.or_false, Bool.decide_and]
theorem rm_af_s {u v n : Nat} {x : rm_Ch} (h : rm_cN x = n + 1) : rm_af u v x = decide ((rm_cB x = u ∧ rm_cF x = v) ∨ (rm_cF x ≤ u ∧ u ≤ rm_cF x + n ∧ v = (if u = rm_cF x + n then rm_cE x else u + 1))) := by
  unfold rm_af rm_cP
  rw [h, List.range'_succ, List.cons_append]
  show ((decide (rm_cB x = u) && decide (rm_cF x = v)) || rm_adj u v (rm_cF x) (List.range' (rm_cF x + 1) n ++ [rm_cE x])) = _
  rw [rm_adj_range, ← Bool.decide_and, ← Bool.decide_or]
section
variable {U M : Nat} {pl pt ys : Int32} {tx sr bf bh pf pc tc tk nd hd nx fl sz cs cp ro mx mt pu fi wk po my : Nat → Int32}
theorem rx_putTogether {post : Int32 → Prop} {d u v : Nat} {x : rm_Ch} (hd16 : d < 16) (he : rm_EC x bf bh pf pc tc tk d) (hb : rm_BC x) (hBP : rm_cB x ∉ rm_cP x) (hu : u ≤ 61) (hv : v ≤ 61) (h1 : rm_af u v x = true → post 1) (h0 : rm_af u v x = false → post 0) : wpX_putTogether post (nI U, nI M, pl, pt, tx, sr, bf, bh, pf, pc, tc, tk, nd, hd, nx, fl, sz, cs, cp, ro, mx, mt) (nI d) (nI u) (nI v) := by
  obtain ⟨e1, e2, e3, e4, e5, e6⟩ := he
  obtain ⟨b1, b2, b3, b4, b5, b6⟩ := hb
  rw [rm_P_mem] at hBP
  cases hN : rm_cN x with
  | zero =>
    rw [rm_af_0 hN, decide_eq_true_eq] at h1
    rw [rm_af_0 hN, decide_eq_false_iff_not] at h0
    rw [hN] at e4
    simp (disch := omega) only [wpX_putTogether, forall_eq, true_and, rm_vin, nI_clamp, rm_62, rm_20, rm_21, rm_22, rm_p60, rm_p61, rm_p22, rm_p2, nI_1, nI_add, nI_pred, pk_m1, e1, e2, e3, e4, nI_eq]
    refine br_t (by trivial) ⟨fun h => ⟨fun h2 => h1 ⟨h.symm, h2.symm⟩, fun h2 => h0 (fun z => h2 z.2.symm)⟩, fun h => h0 (fun z => h z.1.symm)⟩
  | succ n =>
    rw [rm_af_s hN, decide_eq_true_eq] at h1
    rw [rm_af_s hN, decide_eq_false_iff_not] at h0
    rw [hN] at e4
    have hne : ¬ nI (n + 1) = 0 := nI_ne0 (by omega) (by omega)
    have i1 : rm_cF x + (n + 1) - 1 = rm_cF x + n := by omega
    simp (disch := omega) only [wpX_putTogether, forall_eq, true_and, rm_vin, nI_clamp, rm_62, rm_20, rm_21, rm_22, rm_p60, rm_p61, rm_p22, rm_p2, nI_1, nI_add, nI_pred, pk_m1, e1, e2, e3, e4, nI_eq, rm_pr, i1, nI_ltI, wX_putTogether_98, wX_putTogether_99, wX_putTogether_125]
    refine br_f hne ⟨fun h => ⟨fun h2 => h1 (Or.inl ⟨h.symm, h2.symm⟩), fun h2 => h0 (fun z => ?_)⟩, fun h => ⟨fun h2 => br_t (by trivial) (h0 (fun z => ?_)), fun h2 => ⟨fun h3 => br_t (by trivial) (h0 (fun z => ?_)), fun h3 => br_f rm_i10 ⟨fun h4 => ⟨fun h5 => h1 (Or.inr ⟨by omega, by omega, ?_⟩), fun h5 => h0 (fun z => ?_)⟩, fun h4 => ⟨fun h5 => h1 (Or.inr ⟨by omega, by omega, ?_⟩), fun h5 => h0 (fun z => ?_)⟩⟩⟩⟩⟩
    · rcases z with z | z
      · exact h2 z.2.symm
      · omega
    · rcases z with z | z
      · exact h z.1.symm
      · omega
    · rcases z with z | z
      · exact h z.1.symm
      · omega
    · rw [if_pos h4]; omega
    · rcases z with z | z
      · exact h z.1.symm
      · rw [if_pos h4] at z; exact h5 z.2.2
    · rw [if_neg h4]; omega
    · rcases z with z | z
      · exact h z.1.symm
      · rw [if_neg h4] at z; exact h5 z.2.2
theorem rx_makerOf {post : Int32 → Prop} {r u v N : Nat} {CH : Nat → rm_Ch} (hr : r < 3) (hN : N ≤ 16) (hall : ∀ d, d < N → bt (hd r) d = true → rm_EC (CH d) bf bh pf pc tc tk d ∧ rm_BC (CH d) ∧ rm_cB (CH d) ∉ rm_cP (CH d)) (hu : u ≤ 61) (hv : v ≤ 61) (H : post (rm_fo (rm_mk CH (hd r) u v N))) : wpX_makerOf post (nI U, nI N, pl, pt, tx, sr, bf, bh, pf, pc, tc, tk, nd, hd, nx, fl, sz, cs, cp, ro, mx, mt) (nI r) (nI u) (nI v) := by
  have key : ∀ (n : Nat), n ≤ N → post (rm_fo (rm_mk CH (hd r) u v n)) → wX_makerOf_8 post (nI r) (nI u) (nI v) (nI U) (nI N) pl pt tx sr bf bh pf pc tc tk nd hd nx fl sz cs cp ro mx mt (n + 1) (nI n - 1) := by
    intro n
    induction n with
    | zero =>
      intro _ h5
      rw [wX_makerOf_8]
      simp (disch := omega) only [rm_dneg]
      exact ⟨fun _ => h5, fun h => absurd (by trivial) h⟩
    | succ n ih =>
      intro hn h5
      rw [rm_mk] at h5
      rw [nI_pred]
      rw [wX_makerOf_8]
      simp (disch := omega) only [forall_eq, rm_j1]
      refine br_f (nI_pos (by omega)) (rx_holds hr (by omega) (fun hb => ?_) (fun hb => ?_))
      · obtain ⟨a1, a2, a3⟩ := hall n (by omega) hb
        refine br_f rm_i10 (rx_putTogether (by omega) a1 a2 a3 hu hv (fun ha => ?_) (fun ha => ?_))
        · rw [hb, ha] at h5
          exact br_f rm_i10 h5
        · rw [hb, ha] at h5
          exact br_t (by trivial) (ih (by omega) h5)
      · rw [hb] at h5
        exact br_t (by trivial) (ih (by omega) h5)
  simp only [wpX_makerOf, forall_eq]
  exact ⟨_, key N (Nat.le_refl _) H⟩
theorem ry_makerOf {post : Int32 → Prop} {r u v : Nat} {CH : Nat → rm_Ch} (hr : r < 3) (hM : M ≤ 16) (hall : ∀ d, d < M → rm_EC (CH d) bf bh pf pc tc tk d ∧ rm_EY (CH d) pu d ∧ rm_BC (CH d)) (hu : u ≤ 61) (hv : v ≤ 61) (H : post (rm_fo (rm_mk CH (hd r) u v M))) : wpY_makerOf post (nI U, nI M, ys, tx, sr, bf, bh, tc, pc, tk, pu, nd, sz, fi, cs, cp, hd, wk, po, my) (nI r) (nI u) (nI v) := by
  have inn : ∀ (J : Int32 → Int32 → Prop) (c : Nat), c < M → bt (hd r) c = true → ∀ (l R0 : List Nat) (y k : Nat) (f : Int32), R0.length = k → rm_cB (CH c) :: (rm_cP (CH c) ++ [rm_cE (CH c)]) = R0 ++ y :: l → (rm_adj u v y l = true → J (nI c) (nI (c + 1))) → (rm_adj u v y l = false → J f (nI (c + 1))) → wY_makerOf_18 post J (nI r) (nI u) (nI v) (nI c) (nI U) (nI M) ys tx sr bf bh tc pc tk pu nd sz fi cs cp hd wk po my (l.length + 1) f (nI k) := by
    intro J c hc hb l
    obtain ⟨a1, a2, a3⟩ := hall c hc
    have hbd : ∀ L, L ∈ rm_cB (CH c) :: (rm_cP (CH c) ++ [rm_cE (CH c)]) → L ≤ 61 := by
      obtain ⟨b1, b2, b3, b4, b5, b6⟩ := a3
      intro L hL
      rcases List.mem_cons.mp hL with a | a
      · omega
      · rcases List.mem_append.mp a with a | a
        · have := rm_P_mem.mp a; omega
        · have : L = rm_cE (CH c) := by simpa using a
          omega
    have hPl : (rm_cP (CH c)).length ≤ 20 := by rw [rm_lP]; exact a3.2.2.2.2.1
    induction l with
    | nil =>
      intro R0 y k f hk eR j1 j0
      have hlen : (rm_cB (CH c) :: (rm_cP (CH c) ++ [rm_cE (CH c)])).length = k + 1 := by rw [eR, ← hk]; simp
      rw [List.length_cons, List.length_append, List.length_singleton] at hlen
      have h5 := j0 rfl
      rw [wY_makerOf_18]
      refine ry_len1 (by omega) a1 ?_
      simp (disch := omega) only [forall_eq, true_and, rm_vin, nI_clamp, rm_62, rm_20, rm_21, rm_22, rm_p60, rm_p61, rm_p22, rm_p2, nI_1, nI_add, nI_pred, pk_m1, nI_leI]
      exact ⟨fun _ => h5, fun h => absurd h (by omega)⟩
    | cons z l ih =>
      intro R0 y k f hk eR j1 j0
      have hlen : (rm_cB (CH c) :: (rm_cP (CH c) ++ [rm_cE (CH c)])).length = k + 1 + (l.length + 1) := by rw [eR, ← hk]; simp; omega
      rw [List.length_cons, List.length_append, List.length_singleton] at hlen
      obtain ⟨g1, g2, g3, g4⟩ := rm_gk eR hk
      obtain ⟨g5, g6, g7, g8⟩ := rm_gk (T0 := R0 ++ [y]) g3 g4
      have hy := hbd y (by rw [eR]; simp)
      have hz := hbd z (by rw [eR]; simp)
      rw [wY_makerOf_18]
      refine ry_len1 (by omega) a1 ?_
      simp (disch := omega) only [forall_eq, true_and, rm_vin, nI_clamp, rm_62, rm_20, rm_21, rm_22, rm_p60, rm_p61, rm_p22, rm_p2, nI_1, nI_add, nI_pred, pk_m1, nI_leI]
      refine ⟨fun h => absurd h (by omega), fun _ => ry_in (by omega) (fun _ => ?_) (fun h => by rw [hb] at h; cases h)⟩
      refine br_f rm_i10 (ry_mem1 (by omega) a1 a2 a3 (by omega) ?_)
      rw [g1]
      by_cases cy : y = u
      · subst cy
        refine br_t (by trivial) (ry_mem1 (by omega) a1 a2 a3 (by omega) ?_)
        rw [g5]
        by_cases cz : z = v
        · subst cz
          refine br_t (by trivial) (ih (R0 ++ [y]) z (k + 1) (nI c) g4 g3 (fun _ => j1 rm_adj_c1) (fun _ => j1 rm_adj_c1))
        · refine br_f (fun e => cz ((nI_eq (by omega) (by omega)).mp e)) (ih (R0 ++ [y]) z (k + 1) f g4 g3 (fun h => j1 (rm_adj_c2 h)) (fun h => j0 ?_))
          show ((decide (y = y) && decide (z = v)) || rm_adj y v z l) = false
          rw [decide_eq_false cz, Bool.and_false, Bool.false_or, h]
      · refine br_f (fun e => cy ((nI_eq (by omega) (by omega)).mp e)) (ih (R0 ++ [y]) z (k + 1) f g4 g3 (fun h => j1 (rm_adj_c2 h)) (fun h => j0 ?_))
        show ((decide (y = u) && decide (z = v)) || rm_adj u v z l) = false
        rw [decide_eq_false cy, Bool.false_and, Bool.false_or, h]
  have out : ∀ (d c : Nat), c + d = M → wY_makerOf_6 post (nI r) (nI u) (nI v) (nI U) (nI M) ys tx sr bf bh tc pc tk pu nd sz fi cs cp hd wk po my (d + 1) (rm_fo (rm_mk CH (hd r) u v c)) (nI c) := by
    intro d
    induction d with
    | zero =>
      intro c hc
      have e : c = M := by omega
      subst e
      rw [wY_makerOf_6]
      simp (disch := omega) only [nI_leI]
      exact ⟨fun _ => H, fun h => absurd (Nat.le_refl _) h⟩
    | succ d ih =>
      intro c hc
      have h5 := ih (c + 1) (by omega)
      rw [rm_mk] at h5
      obtain ⟨a1, a2, a3⟩ := hall c (by omega)
      rw [wY_makerOf_6]
      simp (disch := omega) only [nI_leI]
      refine ⟨fun h => absurd h (by omega), fun _ => ?_⟩
      cases hb : bt (hd r) c with
      | false =>
        rw [hb] at h5
        refine ⟨1, ?_⟩
        show wY_makerOf_18 post _ _ _ _ _ (nI U) (nI M) ys tx sr bf bh tc pc tk pu nd sz fi cs cp hd wk po my (0 + 1) _ (nI 0)
        rw [wY_makerOf_18]
        refine ry_len1 (by omega) a1 ?_
        have hPl : (rm_cP (CH c)).length ≤ 20 := by rw [rm_lP]; exact a3.2.2.2.2.1
        simp (disch := omega) only [forall_eq, true_and, rm_vin, nI_clamp, rm_62, rm_20, rm_21, rm_22, rm_p60, rm_p61, rm_p22, rm_p2, nI_1, nI_add, nI_pred, pk_m1, nI_leI]
        refine ⟨fun h => absurd h (by omega), fun _ => ry_in (by omega) (fun h => by rw [hb] at h; cases h) (fun _ => ?_)⟩
        exact br_t (by trivial) h5
      | true =>
        rw [hb] at h5
        refine ⟨_, inn _ c (by omega) hb (rm_cP (CH c) ++ [rm_cE (CH c)]) [] (rm_cB (CH c)) 0 _ rfl rfl (fun h => ?_) (fun h => ?_)⟩
        · have ha : rm_af u v (CH c) = true := h
          rw [ha] at h5
          exact h5
        · have ha : rm_af u v (CH c) = false := h
          rw [ha] at h5
          exact h5
  unfold wpY_makerOf
  exact ⟨_, out M 0 (by omega)⟩
theorem rx_findNeeds {post : SX → Prop} {r : Nat} {x : rm_Ch} {CH : Nat → rm_Ch} (hr : r < 3) (hM : M < 16) (he : rm_EC x bf bh pf pc tc tk M) (hb : rm_BC x) (hlt : ∀ d, bt (hd r) d = true → d < M) (hall : ∀ d, d < M → rm_EC (CH d) bf bh pf pc tc tk d ∧ rm_BC (CH d) ∧ rm_cB (CH d) ∉ rm_cP (CH d)) (H : post (nI U, nI (M + 1), pl, pt, tx, sr, bf, bh, pf, pc, tc, tk, upd nd M (rm_need CH nd (hd r) M (rm_cB x) (rm_cT x ++ [rm_cE x])), hd, nx, fl, sz, cs, cp, ro, mx, mt)) : wpX_findNeeds post (nI U, nI (M + 1), pl, pt, tx, sr, bf, bh, pf, pc, tc, tk, nd, hd, nx, fl, sz, cs, cp, ro, mx, mt) (nI r) (nI M) := by
  obtain ⟨e1, e2, e3, e4, e5, e6⟩ := he
  obtain ⟨b1, b2, b3, b4, b5, b6⟩ := hb
  have hmk : ∀ u v, rm_mk CH (hd r) u v (M + 1) = rm_mk CH (hd r) u v M := by
    intro u v
    rw [rm_mk, if_neg]
    intro h
    rw [Bool.and_eq_true] at h
    have := hlt M h.1
    omega
  have st : ∀ (J : Int32 → Int32 → (Nat → Int32) → (Nat → Int32) → (Nat → Int32) → (Nat → Int32) → (Nat → Int32) → (Nat → Int32) → (Nat → Int32) → (Nat → Int32) → (Nat → Int32) → (Nat → Int32) → (Nat → Int32) → (Nat → Int32) → (Nat → Int32) → (Nat → Int32) → (Nat → Int32) → (Nat → Int32) → (Nat → Int32) → (Nat → Int32) → Prop) (y z k : Nat) (acc : Int32), y ≤ 61 → z ≤ 61 → k ≤ 20 → J (nI z) (nI (k + 1)) tx sr bf bh pf pc tc tk (upd nd M (rm_ad nd acc (rm_mk CH (hd r) y z M))) hd nx fl sz cs cp ro mx mt → wX_findNeeds_60 post J (nI r) (nI M) (nI y) (nI k) (nI z) (nI U) (nI (M + 1)) pl pt tx sr bf bh pf pc tc tk (upd nd M acc) hd nx fl sz cs cp ro mx mt := by
    intro J y z k acc hy hz hk hJ
    unfold wX_findNeeds_60
    refine rx_makerOf (CH := CH) hr (by omega) (fun d hd2 hd3 => hall d (hlt d hd3)) hy hz ?_
    rw [hmk]
    cases hm : rm_mk CH (hd r) y z M with
    | none =>
      rw [hm] at hJ
      simp (disch := omega) only [forall_eq, true_and, rm_vin, nI_clamp, rm_62, rm_20, rm_21, rm_22, rm_p60, rm_p61, rm_p22, rm_p2, nI_1, nI_add, nI_pred, pk_m1]
      exact br_t (by decide) hJ
    | some d =>
      rw [hm] at hJ
      have hdM := (rm_mk_some hm).1
      have e9 : upd nd M acc d = nd d := pk_un (by omega)
      simp (disch := omega) only [rm_fo, forall_eq, true_and, rm_vin, nI_clamp, rm_62, rm_20, rm_21, rm_22, rm_p60, rm_p61, rm_p22, rm_p2, nI_1, nI_add, nI_pred, pk_m1, pk_us, e9, rm_uu]
      exact br_f (nI_pos (by omega)) hJ
  have fin : ∀ (y : Nat) (acc : Int32), post (nI U, nI (M + 1), pl, pt, tx, sr, bf, bh, pf, pc, tc, tk, upd nd M acc, hd, nx, fl, sz, cs, cp, ro, mx, mt) → wX_findNeeds_17 post (nI r) (nI M) (nI U) (nI (M + 1)) pl pt (0 + 1) (nI y) (nI ((rm_cT x).length + 1)) tx sr bf bh pf pc tc tk (upd nd M acc) hd nx fl sz cs cp ro mx mt := by
    intro y acc h5
    rw [wX_findNeeds_17]
    simp (disch := omega) only [forall_eq, true_and, rm_vin, nI_clamp, rm_62, rm_20, rm_21, rm_22, rm_p60, rm_p61, rm_p22, rm_p2, nI_1, nI_add, nI_pred, pk_m1, e5, nI_ltI]
    exact ⟨fun _ => h5, fun h => absurd h (by omega)⟩
  have key : ∀ (Q T0 : List Nat) (y k : Nat) (acc : Int32), T0.length = k → rm_cT x = T0 ++ Q → y ≤ 61 → post (nI U, nI (M + 1), pl, pt, tx, sr, bf, bh, pf, pc, tc, tk, upd nd M (rm_nv nd (fun u v => rm_mk CH (hd r) u v M) acc y (Q ++ [rm_cE x])), hd, nx, fl, sz, cs, cp, ro, mx, mt) → wX_findNeeds_17 post (nI r) (nI M) (nI U) (nI (M + 1)) pl pt (Q.length + 2) (nI y) (nI k) tx sr bf bh pf pc tc tk (upd nd M acc) hd nx fl sz cs cp ro mx mt := by
    intro Q
    induction Q with
    | nil =>
      intro T0 y k acc hk eT hy h5
      have hk' : (rm_cT x).length = k := by rw [eT, ← hk]; simp
      have h6 := st (wX_findNeeds_17 post (nI r) (nI M) (nI U) (nI (M + 1)) pl pt (0 + 1)) y (rm_cE x) k acc hy b2 (by omega) (by rw [← hk']; exact fin _ _ h5)
      show wX_findNeeds_17 post _ _ _ _ _ _ (0 + 1 + 1) _ _ tx sr bf bh pf pc tc tk (upd nd M acc) hd nx fl sz cs cp ro mx mt
      rw [wX_findNeeds_17]
      simp (disch := omega) only [forall_eq, true_and, rm_vin, nI_clamp, rm_62, rm_20, rm_21, rm_22, rm_p60, rm_p61, rm_p22, rm_p2, nI_1, nI_add, nI_pred, pk_m1, e5, e2, nI_ltI, nI_leI]
      exact ⟨fun h => absurd h (by omega), fun _ => ⟨fun _ => h6, fun h => absurd h (by omega)⟩⟩
    | cons q Q ih =>
      intro T0 y k acc hk eT hy h5
      obtain ⟨g1, g2, g3, g4⟩ := rm_gk eT hk
      have hq : q < 60 := b3 q (by rw [eT]; simp)
      have e8 : tk (20 * M + k) = nI q := by rw [e6 k g2, g1]
      have h6 := st (wX_findNeeds_17 post (nI r) (nI M) (nI U) (nI (M + 1)) pl pt (Q.length + 2)) y q k acc hy (by omega) (by omega) (ih (T0 ++ [q]) q (k + 1) _ g4 g3 (by omega) h5)
      show wX_findNeeds_17 post _ _ _ _ _ _ (Q.length + 2 + 1) _ _ tx sr bf bh pf pc tc tk (upd nd M acc) hd nx fl sz cs cp ro mx mt
      rw [wX_findNeeds_17]
      simp (disch := omega) only [forall_eq, true_and, rm_vin, nI_clamp, rm_62, rm_20, rm_21, rm_22, rm_p60, rm_p61, rm_p22, rm_p2, nI_1, nI_add, nI_pred, pk_m1, e5, e8, nI_ltI, nI_leI]
      exact ⟨fun h => absurd h (by omega), fun _ => ⟨fun h => absurd h (by omega), fun _ => h6⟩⟩
  have h7 := key (rm_cT x) [] (rm_cB x) 0 0 rfl rfl (by omega) H
  simp (disch := omega) only [wpX_findNeeds, forall_eq, true_and, rm_vin, nI_clamp, rm_62, rm_20, rm_21, rm_22, rm_p60, rm_p61, rm_p22, rm_p2, nI_1, nI_add, nI_pred, pk_m1, e1]
  exact ⟨_, h7⟩
theorem ry_findNeeds {post : SY → Prop} {r : Nat} {x : rm_Ch} {CH : Nat → rm_Ch} (hr : r < 3) (hM : M < 16) (he : rm_EC x bf bh pf pc tc tk M) (hb : rm_BC x) (hall : ∀ d, d < M → rm_EC (CH d) bf bh pf pc tc tk d ∧ rm_EY (CH d) pu d ∧ rm_BC (CH d)) (H : post (nI U, nI M, ys, tx, sr, bf, bh, tc, pc, tk, pu, upd nd M (rm_need CH nd (hd r) M (rm_cB x) (rm_cT x ++ [rm_cE x])), sz, fi, cs, cp, hd, wk, po, my)) : wpY_findNeeds post (nI U, nI M, ys, tx, sr, bf, bh, tc, pc, tk, pu, nd, sz, fi, cs, cp, hd, wk, po, my) (nI r) (nI M) := by
  have hbd : ∀ L, L ∈ rm_cB x :: (rm_cT x ++ [rm_cE x]) → L ≤ 61 := by
    obtain ⟨b1, b2, b3, b4, b5, b6⟩ := hb
    intro L hL
    rcases List.mem_cons.mp hL with a | a
    · omega
    · rcases List.mem_append.mp a with a | a
      · have := b3 L a; omega
      · have : L = rm_cE x := by simpa using a
        omega
  have hTl : (rm_cT x).length ≤ 20 := hb.2.2.2.2.2
  have key : ∀ (l R0 : List Nat) (y k : Nat) (acc : Int32), R0.length = k → rm_cB x :: (rm_cT x ++ [rm_cE x]) = R0 ++ y :: l → post (nI U, nI M, ys, tx, sr, bf, bh, tc, pc, tk, pu, upd nd M (rm_nv nd (fun u v => rm_mk CH (hd r) u v M) acc y l), sz, fi, cs, cp, hd, wk, po, my) → wY_findNeeds_9 post (nI r) (nI M) (nI U) (nI M) ys (l.length + 1) (nI k) tx sr bf bh tc pc tk pu (upd nd M acc) sz fi cs cp hd wk po my := by
    intro l
    induction l with
    | nil =>
      intro R0 y k acc hk eR h5
      have hlen : (rm_cB x :: (rm_cT x ++ [rm_cE x])).length = k + 1 := by rw [eR, ← hk]; simp
      rw [List.length_cons, List.length_append, List.length_singleton] at hlen
      rw [wY_findNeeds_9]
      refine ry_len0 (by omega) he ?_
      simp (disch := omega) only [forall_eq, true_and, rm_vin, nI_clamp, rm_62, rm_20, rm_21, rm_22, rm_p60, rm_p61, rm_p22, rm_p2, nI_1, nI_add, nI_pred, pk_m1, nI_leI]
      exact ⟨fun _ => h5, fun h => absurd h (by omega)⟩
    | cons z l ih =>
      intro R0 y k acc hk eR h5
      have hlen : (rm_cB x :: (rm_cT x ++ [rm_cE x])).length = k + 1 + (l.length + 1) := by rw [eR, ← hk]; simp; omega
      rw [List.length_cons, List.length_append, List.length_singleton] at hlen
      obtain ⟨g1, g2, g3, g4⟩ := rm_gk eR hk
      obtain ⟨g5, g6, g7, g8⟩ := rm_gk (T0 := R0 ++ [y]) g3 g4
      have hy := hbd y (by rw [eR]; simp)
      have hz := hbd z (by rw [eR]; simp)
      have h6 := ih (R0 ++ [y]) z (k + 1) (rm_ad nd acc (rm_mk CH (hd r) y z M)) g4 g3 h5
      rw [wY_findNeeds_9]
      refine ry_len0 (by omega) he ?_
      simp (disch := omega) only [forall_eq, true_and, rm_vin, nI_clamp, rm_62, rm_20, rm_21, rm_22, rm_p60, rm_p61, rm_p22, rm_p2, nI_1, nI_add, nI_pred, pk_m1, nI_leI]
      refine ⟨fun h => absurd h (by omega), fun _ => ry_mem0 (by omega) he hb (by omega) (ry_mem0 (by omega) he hb (by omega) ?_)⟩
      rw [g1, g5]
      refine ry_makerOf (CH := CH) hr (by omega) hall hy hz ?_
      cases hm : rm_mk CH (hd r) y z M with
      | none =>
        rw [hm] at h6
        simp (disch := omega) only [forall_eq, true_and, rm_vin, nI_clamp, rm_62, rm_20, rm_21, rm_22, rm_p60, rm_p61, rm_p22, rm_p2, nI_1, nI_add, nI_pred, pk_m1, rm_ui]
        exact br_t (by decide) h6
      | some d =>
        rw [hm] at h6
        have hdM := (rm_mk_some hm).1
        have e9 : upd nd M acc d = nd d := pk_un (by omega)
        simp (disch := omega) only [rm_fo, forall_eq, true_and, rm_vin, nI_clamp, rm_62, rm_20, rm_21, rm_22, rm_p60, rm_p61, rm_p22, rm_p2, nI_1, nI_add, nI_pred, pk_m1, pk_us, e9, rm_uu, Int32.or_assoc]
        exact br_f (nI_pos (by omega)) h6
  have h7 := key (rm_cT x ++ [rm_cE x]) [] (rm_cB x) 0 0 rfl rfl H
  simp (disch := omega) only [wpY_findNeeds, forall_eq, true_and, rm_vin, nI_clamp, rm_62, rm_20, rm_21, rm_22, rm_p60, rm_p61, rm_p22, rm_p2, nI_1, nI_add, nI_pred, pk_m1]
  exact ⟨_, h7⟩
end
end
section
/-! the component compares a file with a copy -/
def rm_e (tx cp : Nat → Int32) (r : Nat) (W : List Nat) (i j : Nat) : Bool := decide (tx (rm_g W i) = cp (20 * r + j))
/-- the table of a width: rows from k on -/
def rm_TB (w : Nat) (e : Nat → Nat → Bool) (s t : Nat) (mx : Nat → Int32) (k : Nat) : Prop := ∀ i j, k ≤ i → i ≤ s → j ≤ t → mx (w * i + j) = nI (rm_m e s t i j)
/-- mates by lines -/
def rm_ma (s : Nat) (mt : Nat → Int32) : Nat → List (Nat × Nat) → Prop
  | i, [] => ∀ i', i ≤ i' → i' < s → mt i' = -1
  | i, p :: R => (∀ i', i ≤ i' → i' < p.1 → mt i' = -1) ∧ mt p.1 = nI p.2 ∧ rm_ma s mt (p.1 + 1) R
section
variable {U M : Nat} {pl pt ys : Int32} {tx sr bf bh pf pc tc tk nd hd nx fl sz cs cp ro mx mt pu fi wk po my : Nat → Int32}
variable {r s t : Nat} {W : List Nat}
theorem rx_agree {post : Int32 → Prop} {i j : Nat} (hr : r < 3) (hi : i < W.length) (hl : W.length ≤ 20) (hj : j < 20) (hro : ∀ k, k < W.length → ro k = nI (rm_g W k)) (hw : ∀ L, L ∈ W → L < 60) (h1 : rm_e tx cp r W i j = true → post 1) (h0 : rm_e tx cp r W i j = false → post 0) : wpX_agree post (nI U, nI M, pl, pt, tx, sr, bf, bh, pf, pc, tc, tk, nd, hd, nx, fl, sz, cs, cp, ro, mx, mt) (nI r) (nI i) (nI j) := by
  have hy : rm_g W i < 60 := hw _ (rm_g_mem hi)
  unfold rm_e at h1 h0
  rw [decide_eq_true_eq] at h1
  rw [decide_eq_false_iff_not] at h0
  simp (disch := omega) only [wpX_agree, forall_eq, true_and, rm_vin, nI_clamp, rm_62, rm_20, rm_21, rm_22, rm_p60, rm_p61, rm_p22, rm_p2, nI_1, nI_add, nI_pred, pk_m1, hro i hi]
  exact ⟨h1, h0⟩
theorem rx_mostFrom {post : Int32 → Prop} {i j : Nat} (hr : r < 3) (hs : sz r = nI W.length) (hl : W.length ≤ 20) (ht : cs r = nI t) (ht2 : t ≤ 20) (hro : ∀ k, k < W.length → ro k = nI (rm_g W k)) (hw : ∀ L, L ∈ W → L < 60) (hi : i ≤ W.length) (hj : j ≤ t)
    (m1 : i < W.length → mx (21 * (i + 1) + j) = nI (rm_m (rm_e tx cp r W) W.length t (i + 1) j)) (m2 : i < W.length → j < t → mx (21 * i + j + 1) = nI (rm_m (rm_e tx cp r W) W.length t i (j + 1))) (m3 : i < W.length → j < t → mx (21 * (i + 1) + j + 1) = nI (rm_m (rm_e tx cp r W) W.length t (i + 1) (j + 1)))
    (H : post (nI (rm_m (rm_e tx cp r W) W.length t i j))) : wpX_mostFrom post (nI U, nI M, pl, pt, tx, sr, bf, bh, pf, pc, tc, tk, nd, hd, nx, fl, sz, cs, cp, ro, mx, mt) (nI r) (nI i) (nI j) := by
  simp (disch := omega) only [wpX_mostFrom, nI_clamp, hs, ht, nI_eq, rm_vin, true_and]
  refine ⟨fun h => ?_, fun h => ⟨fun h2 => ?_, fun h2 => ?_⟩⟩
  · rw [rm_m_s (by omega)] at H; exact H
  · rw [rm_m_t (by omega)] at H; exact H
  · have hi' : i < W.length := by omega
    have hj' : j < t := by omega
    have l1 := (rm_m_le (rm_e tx cp r W) W.length t (i + 1) j).1
    have l2 := (rm_m_le (rm_e tx cp r W) W.length t i (j + 1)).1
    have l3 := (rm_m_le (rm_e tx cp r W) W.length t (i + 1) (j + 1)).1
    have e1 := m1 hi'
    have e2 := m2 hi' hj'
    have e3 := m3 hi' hj'
    rw [rm_m_r hi' hj'] at H
    generalize rm_m (rm_e tx cp r W) W.length t (i + 1) j = a1 at *
    generalize rm_m (rm_e tx cp r W) W.length t i (j + 1) = a2 at *
    generalize rm_m (rm_e tx cp r W) W.length t (i + 1) (j + 1) = a3 at *
    have step : ∀ b0 : Nat, b0 ≤ 20 → rm_mx a1 a2 = b0 → wX_mostFrom_66 post (nI r) (nI i) (nI j) (nI b0) (nI U) (nI M) pl pt tx sr bf bh pf pc tc tk nd hd nx fl sz cs cp ro mx mt := by
      intro b0 hb0 eb
      rw [eb] at H
      unfold wX_mostFrom_66
      refine rx_agree hr hi' hl (by omega) hro hw (fun he => ?_) (fun he => ?_)
      · rw [if_pos he] at H
        simp (disch := omega) only [wX_mostFrom_103, forall_eq, true_and, rm_vin, nI_clamp, rm_62, rm_20, rm_21, rm_22, rm_p60, rm_p61, rm_p22, rm_p2, nI_1, nI_add, nI_pred, pk_m1, e3, nI_leI]
        refine br_f rm_i10 ⟨fun h3 => ?_, fun h3 => ?_⟩
        · unfold rm_mx at H
          rw [if_pos h3] at H
          exact H
        · unfold rm_mx at H
          rw [if_neg h3] at H
          exact H
      · rw [if_neg (by rw [he]; decide)] at H
        unfold rm_mx at H
        rw [if_pos (Nat.zero_le _)] at H
        simp only [wX_mostFrom_103]
        exact br_t (by trivial) (br_t (nI_pos' (by omega)) H)
    simp (disch := omega) only [forall_eq, true_and, rm_vin, nI_clamp, rm_62, rm_20, rm_21, rm_22, rm_p60, rm_p61, rm_p22, rm_p2, nI_1, nI_add, nI_pred, pk_m1, e1, e2, nI_leI]
    refine ⟨fun h3 => step a2 (by omega) ?_, fun h3 => step a1 (by omega) ?_⟩
    · unfold rm_mx; rw [if_pos h3]
    · unfold rm_mx; rw [if_neg h3]
theorem rx_compareCopy {post : SX → Prop} (hr : r < 3) (hX : rm_XR r W nx fl) (hs : sz r = nI W.length) (hl : W.length ≤ 20) (hw : ∀ L, L ∈ W → L < 60) (ht : cs r = nI t) (ht2 : t ≤ 20) (H : ∀ mx : Nat → Int32, rm_TB 21 (rm_e tx cp r W) W.length t mx 0 → post (nI U, nI M, pl, pt, tx, sr, bf, bh, pf, pc, tc, tk, nd, hd, nx, fl, sz, cs, cp, rm_wf ro 0 W.length (fun k => nI (rm_g W k)), mx, mt)) : wpX_compareCopy post (nI U, nI M, pl, pt, tx, sr, bf, bh, pf, pc, tc, tk, nd, hd, nx, fl, sz, cs, cp, ro, mx, mt) (nI r) := by
  have hro : ∀ k, k < W.length → rm_wf ro 0 W.length (fun k => nI (rm_g W k)) k = nI (rm_g W k) := by
    intro k hk
    have := rm_wf_i (a := ro) (b := 0) (n := W.length) (f := fun k => nI (rm_g W k)) hk
    rw [Nat.zero_add] at this
    exact this
  generalize hrn : rm_wf ro 0 W.length (fun k => nI (rm_g W k)) = rn at H hro
  have inn : ∀ (J : Int32 → (Nat → Int32) → (Nat → Int32) → (Nat → Int32) → (Nat → Int32) → (Nat → Int32) → (Nat → Int32) → (Nat → Int32) → (Nat → Int32) → (Nat → Int32) → (Nat → Int32) → (Nat → Int32) → (Nat → Int32) → (Nat → Int32) → (Nat → Int32) → (Nat → Int32) → (Nat → Int32) → (Nat → Int32) → (Nat → Int32) → Prop) (i : Nat), i ≤ W.length → (∀ mx : Nat → Int32, rm_TB 21 (rm_e tx cp r W) W.length t mx i → J (nI i - 1) tx sr bf bh pf pc tc tk nd hd nx fl sz cs cp rn mx mt) → ∀ (k : Nat) (mx : Nat → Int32), k ≤ t + 1 → rm_TB 21 (rm_e tx cp r W) W.length t mx (i + 1) → (∀ j, k ≤ j → j ≤ t → mx (21 * i + j) = nI (rm_m (rm_e tx cp r W) W.length t i j)) → wX_compareCopy_23 post J (nI r) (nI i) (nI U) (nI M) pl pt (k + 1) (nI k - 1) tx sr bf bh pf pc tc tk nd hd nx fl sz cs cp rn mx mt := by
    intro J i hi hJ k
    induction k with
    | zero =>
      intro mx hk i1 i2
      have h5 := hJ mx (by
        intro i' j h1 h2 h3
        by_cases e : i' = i
        · subst e; exact i2 j (Nat.zero_le _) h3
        · exact i1 i' j (by omega) h2 h3)
      rw [wX_compareCopy_23]
      simp (disch := omega) only [rm_dneg, forall_eq, rm_j1]
      exact ⟨fun _ => h5, fun h => absurd (by trivial) h⟩
    | succ j ih =>
      intro mx hk i1 i2
      have h5 := ih (upd mx (21 * i + j) (nI (rm_m (rm_e tx cp r W) W.length t i j))) (by omega) (by
        intro i' j' h1 h2 h3
        rw [pk_un (by omega)]
        exact i1 i' j' h1 h2 h3) (by
        intro j' h1 h2
        by_cases e : j' = j
        · subst e; exact pk_us
        · rw [pk_un (by omega)]
          exact i2 j' (by omega) h2)
      rw [nI_pred]
      rw [wX_compareCopy_23]
      simp (disch := omega) only [forall_eq, true_and, rm_vin, nI_clamp, rm_62, rm_20, rm_21, rm_22, rm_p60, rm_p61, rm_p22, rm_p2, nI_1, nI_add, nI_pred, pk_m1, rm_j1]
      refine br_f (nI_pos (by omega)) (rx_mostFrom hr hs hl ht ht2 hro hw hi (by omega) (fun h => ?_) (fun h h2 => ?_) (fun h h2 => ?_) ?_)
      · exact i1 (i + 1) j (Nat.le_refl _) (by omega) (by omega)
      · exact i2 (j + 1) (by omega) (by omega)
      · exact i1 (i + 1) (j + 1) (Nat.le_refl _) (by omega) (by omega)
      · exact h5
  have out : ∀ (k : Nat) (mx : Nat → Int32), k ≤ W.length + 1 → rm_TB 21 (rm_e tx cp r W) W.length t mx k → wX_compareCopy_12 post (nI r) (nI U) (nI M) pl pt (k + 1) (nI k - 1) tx sr bf bh pf pc tc tk nd hd nx fl sz cs cp rn mx mt := by
    intro k
    induction k with
    | zero =>
      intro mx hk i1
      have h5 := H mx i1
      rw [wX_compareCopy_12]
      simp (disch := omega) only [rm_dneg]
      exact ⟨fun _ => h5, fun h => absurd (by trivial) h⟩
    | succ i ih =>
      intro mx hk i1
      have h5 := inn (wX_compareCopy_12 post (nI r) (nI U) (nI M) pl pt (i + 1)) i (by omega) (fun mx h => ih mx (by omega) h) (t + 1) mx (Nat.le_refl _) i1 (fun j h1 h2 => by omega)
      rw [nI_pred] at h5
      rw [nI_pred]
      rw [wX_compareCopy_12]
      simp (disch := omega) only [forall_eq, true_and, rm_vin, nI_clamp, rm_62, rm_20, rm_21, rm_22, rm_p60, rm_p61, rm_p22, rm_p2, nI_1, nI_add, nI_pred, pk_m1, ht]
      exact br_f (nI_pos (by omega)) ⟨_, h5⟩
  have h6 := out (W.length + 1) mx (Nat.le_refl _) (fun i j h1 h2 h3 => by omega)
  rw [nI_pred] at h6
  unfold wpX_compareCopy
  refine rx_layRow hr hX hs hl hw ?_
  simp (disch := omega) only [forall_eq, true_and, rm_vin, nI_clamp, rm_62, rm_20, rm_21, rm_22, rm_p60, rm_p61, rm_p22, rm_p2, nI_1, nI_add, nI_pred, pk_m1, hs, hrn]
  exact ⟨_, h6⟩
theorem rx_findPair {post : SX → Prop} {i j a b : Nat} (hr : r < 3) (hs : sz r = nI W.length) (hl : W.length ≤ 20) (ht : cs r = nI t) (ht2 : t ≤ 20) (hro : ∀ k, k < W.length → ro k = nI (rm_g W k)) (hw : ∀ L, L ∈ W → L < 60) (hT : rm_TB 21 (rm_e tx cp r W) W.length t mx 0) (hia : i ≤ a) (haw : a < W.length) (hj : j ≤ t)
    (hno : ∀ i', i ≤ i' → i' < a → rm_fj (rm_cd (rm_e tx cp r W) W.length t i' (rm_m (rm_e tx cp r W) W.length t i j)) j (t - j) = none) (hso : rm_fj (rm_cd (rm_e tx cp r W) W.length t a (rm_m (rm_e tx cp r W) W.length t i j)) j (t - j) = some b)
    (H : post (nI U, nI M, nI a, nI b, tx, sr, bf, bh, pf, pc, tc, tk, nd, hd, nx, fl, sz, cs, cp, ro, mx, mt)) : wpX_findPair post (nI U, nI M, pl, pt, tx, sr, bf, bh, pf, pc, tc, tk, nd, hd, nx, fl, sz, cs, cp, ro, mx, mt) (nI r) (nI i) (nI j) := by
  have hd0 := (rm_m_le (rm_e tx cp r W) W.length t i j).1
  have hdue := hT i j (Nat.zero_le _) (by omega) hj
  generalize hdu : rm_m (rm_e tx cp r W) W.length t i j = due at *
  have innN : ∀ (J : Int32 → Prop) (i : Nat), i < W.length → J (nI (i + 1)) → ∀ (d k : Nat), k + d = t → (∀ k', k ≤ k' → k' < t → rm_cd (rm_e tx cp r W) W.length t i due k' = false) → wX_findPair_30 post J (nI r) (nI j) (nI due) (nI i) (nI U) (nI M) pl pt tx sr bf bh pf pc tc tk nd hd nx fl sz cs cp ro mx mt (d + 1) (nI k) := by
    intro J i hi hJ d
    induction d with
    | zero =>
      intro k hk hf
      rw [wX_findPair_30]
      simp (disch := omega) only [forall_eq, true_and, rm_vin, nI_clamp, rm_62, rm_20, rm_21, rm_22, rm_p60, rm_p61, rm_p22, rm_p2, nI_1, nI_add, nI_pred, pk_m1, ht, nI_leI]
      exact ⟨fun _ => hJ, fun h => absurd h (by omega)⟩
    | succ d ih =>
      intro k hk hf
      have h5 := ih (k + 1) (by omega) (fun k' h1 h2 => hf k' (by omega) h2)
      have hc := hf k (Nat.le_refl _) (by omega)
      have l3 := (rm_m_le (rm_e tx cp r W) W.length t (i + 1) (k + 1)).1
      have e3 : mx (21 * (i + 1) + k + 1) = nI (rm_m (rm_e tx cp r W) W.length t (i + 1) (k + 1)) := hT (i + 1) (k + 1) (Nat.zero_le _) (by omega) (by omega)
      rw [wX_findPair_30]
      simp (disch := omega) only [forall_eq, true_and, rm_vin, nI_clamp, rm_62, rm_20, rm_21, rm_22, rm_p60, rm_p61, rm_p22, rm_p2, nI_1, nI_add, nI_pred, pk_m1, ht, nI_leI]
      refine ⟨fun h => absurd h (by omega), fun _ => rx_agree hr hi hl (by omega) hro hw (fun he => ?_) (fun he => ?_)⟩
      · simp (disch := omega) only [forall_eq, true_and, rm_vin, nI_clamp, rm_62, rm_20, rm_21, rm_22, rm_p60, rm_p61, rm_p22, rm_p2, nI_1, nI_add, nI_pred, pk_m1, e3, nI_eq]
        refine br_f rm_i10 ⟨fun h => ?_, fun h => h5⟩
        rw [rm_cd_iff.mpr ⟨he, h⟩] at hc
        cases hc
      · exact br_t (by trivial) h5
  have innS : ∀ (J : Int32 → Prop) (d k : Nat), k + d = t → k ≤ b → b < t → (∀ k', k ≤ k' → k' < b → rm_cd (rm_e tx cp r W) W.length t a due k' = false) → rm_cd (rm_e tx cp r W) W.length t a due b = true → wX_findPair_30 post J (nI r) (nI j) (nI due) (nI a) (nI U) (nI M) pl pt tx sr bf bh pf pc tc tk nd hd nx fl sz cs cp ro mx mt (d + 1) (nI k) := by
    intro J d
    induction d with
    | zero => intro k hk h1 h2; omega
    | succ d ih =>
      intro k hk hkb hbt hf hc
      have l3 := (rm_m_le (rm_e tx cp r W) W.length t (a + 1) (k + 1)).1
      have e3 : mx (21 * (a + 1) + k + 1) = nI (rm_m (rm_e tx cp r W) W.length t (a + 1) (k + 1)) := hT (a + 1) (k + 1) (Nat.zero_le _) (by omega) (by omega)
      rw [wX_findPair_30]
      simp (disch := omega) only [forall_eq, true_and, rm_vin, nI_clamp, rm_62, rm_20, rm_21, rm_22, rm_p60, rm_p61, rm_p22, rm_p2, nI_1, nI_add, nI_pred, pk_m1, ht, nI_leI]
      refine ⟨fun h => absurd h (by omega), fun _ => rx_agree hr haw hl (by omega) hro hw (fun he => ?_) (fun he => ?_)⟩
      · simp (disch := omega) only [forall_eq, true_and, rm_vin, nI_clamp, rm_62, rm_20, rm_21, rm_22, rm_p60, rm_p61, rm_p22, rm_p2, nI_1, nI_add, nI_pred, pk_m1, e3, nI_eq]
        refine br_f rm_i10 ⟨fun h => ?_, fun h => ?_⟩
        · by_cases e : k = b
          · rw [e]; exact H
          · have := hf k (Nat.le_refl _) (by omega)
            rw [rm_cd_iff.mpr ⟨he, h⟩] at this
            cases this
        · by_cases e : k = b
          · rw [e] at h
            exact absurd (rm_cd_iff.mp hc).2 h
          · exact ih (k + 1) (by omega) (by omega) hbt (fun k' h1 h2 => hf k' (by omega) h2) hc
      · by_cases e : k = b
        · rw [e, (rm_cd_iff.mp hc).1] at he
          cases he
        · exact br_t (by trivial) (ih (k + 1) (by omega) (by omega) hbt (fun k' h1 h2 => hf k' (by omega) h2) hc)
  obtain ⟨s1, s2, s3, s4⟩ := rm_fj_some hso
  have out : ∀ (d i' : Nat), i' + d = a → i ≤ i' → wX_findPair_16 post (nI r) (nI j) (nI due) (nI U) (nI M) pl pt tx sr bf bh pf pc tc tk nd hd nx fl sz cs cp ro mx mt (d + 1) (nI i') := by
    intro d
    induction d with
    | zero =>
      intro i' hi hii
      have e : i' = a := by omega
      subst e
      rw [wX_findPair_16]
      simp (disch := omega) only [forall_eq, true_and, rm_vin, nI_clamp, rm_62, rm_20, rm_21, rm_22, rm_p60, rm_p61, rm_p22, rm_p2, nI_1, nI_add, nI_pred, pk_m1, hs, nI_leI]
      exact ⟨fun h => absurd h (by omega), fun _ => ⟨_, innS _ (t - j) j (by omega) s1 (by omega) s4 s3⟩⟩
    | succ d ih =>
      intro i' hi hii
      have h5 := ih (i' + 1) (by omega) (by omega)
      rw [wX_findPair_16]
      simp (disch := omega) only [forall_eq, true_and, rm_vin, nI_clamp, rm_62, rm_20, rm_21, rm_22, rm_p60, rm_p61, rm_p22, rm_p2, nI_1, nI_add, nI_pred, pk_m1, hs, nI_leI]
      exact ⟨fun h => absurd h (by omega), fun _ => ⟨_, innN _ i' (by omega) h5 (t - j) j (by omega) (fun k' h1 h2 => rm_fj_none (hno i' hii (by omega)) k' h1 (by omega))⟩⟩
  have h6 := out (a - i) i (by omega) (Nat.le_refl _)
  simp (disch := omega) only [wpX_findPair, forall_eq, true_and, rm_vin, nI_clamp, rm_62, rm_20, rm_21, rm_22, rm_p60, rm_p61, rm_p22, rm_p2, nI_1, nI_add, nI_pred, pk_m1, hdue]
  exact ⟨_, h6⟩
theorem rx_findPairs {post : SX → Prop} (hr : r < 3) (hX : rm_XR r W nx fl) (hs : sz r = nI W.length) (hl : W.length ≤ 20) (hw : ∀ L, L ∈ W → L < 60) (ht : cs r = nI t) (ht2 : t ≤ 20) (H : ∀ (mx mt : Nat → Int32) (pl pt : Int32), rm_TB 21 (rm_e tx cp r W) W.length t mx 0 → rm_ma W.length mt 0 (rm_prs (rm_e tx cp r W) W.length t W.length 0 0 (rm_m (rm_e tx cp r W) W.length t 0 0)) → post (nI U, nI M, pl, pt, tx, sr, bf, bh, pf, pc, tc, tk, nd, hd, nx, fl, sz, cs, cp, rm_wf ro 0 W.length (fun k => nI (rm_g W k)), mx, mt)) : wpX_findPairs post (nI U, nI M, pl, pt, tx, sr, bf, bh, pf, pc, tc, tk, nd, hd, nx, fl, sz, cs, cp, ro, mx, mt) (nI r) := by
  have hro : ∀ k, k < W.length → rm_wf ro 0 W.length (fun k => nI (rm_g W k)) k = nI (rm_g W k) := by
    intro k hk
    have := rm_wf_i (a := ro) (b := 0) (n := W.length) (f := fun k => nI (rm_g W k)) hk
    rw [Nat.zero_add] at this
    exact this
  unfold wpX_findPairs
  refine rx_compareCopy hr hX hs hl hw ht ht2 (fun mx hT => ?_)
  have H' := fun mt pl pt h => H mx mt pl pt hT h
  generalize rm_wf ro 0 W.length (fun k => nI (rm_g W k)) = rn at H' hro ⊢
  have lp : ∀ (d i j k : Nat) (mt0 mt : Nat → Int32) (pl pt : Int32) (Q : (Nat → Int32) → Prop), rm_m (rm_e tx cp r W) W.length t i j = d → k + d ≤ 20 → i ≤ W.length → j ≤ t → (∀ i', i ≤ i' → i' < 20 → mt i' = -1) → (∀ (mt' : Nat → Int32) (pl pt : Int32), rm_ma W.length mt' i (rm_prs (rm_e tx cp r W) W.length t (W.length - i) i j (rm_m (rm_e tx cp r W) W.length t i j)) → (∀ i', i' < i → mt' i' = mt i') → post (nI U, nI M, pl, pt, tx, sr, bf, bh, pf, pc, tc, tk, nd, hd, nx, fl, sz, cs, cp, rn, mx, mt')) → wX_findPairs_33 post (nI r) (d + 1) (nI i) (nI j) (nI k) (nI U) (nI M) pl pt tx sr bf bh pf pc tc tk nd hd nx fl sz cs cp rn mx mt := by
    intro d
    induction d with
    | zero =>
      intro i j k mt0 mt pl pt Q hd hk hi hj hm hP
      have hlen := rm_prs_len (rm_e tx cp r W) W.length t (W.length - i) i j (by omega)
      rw [hd] at hlen
      have hnil := List.length_eq_zero_iff.mp hlen
      rw [hd, hnil] at hP
      have h5 := hP mt pl pt (fun i' h1 h2 => hm i' h1 (by omega)) (fun _ _ => rfl)
      have e3 : mx (21 * i + j) = nI 0 := by rw [hT i j (Nat.zero_le _) hi hj, hd]
      rw [wX_findPairs_33]
      simp (disch := omega) only [forall_eq, true_and, rm_vin, nI_clamp, rm_62, rm_20, rm_21, rm_22, rm_p60, rm_p61, rm_p22, rm_p2, nI_1, nI_add, nI_pred, pk_m1, e3]
      exact br_c (fun _ => h5) (fun _ => br_t (by decide) h5)
    | succ d ih =>
      intro i j k mt0 mt pl pt Q hd hk hi hj hm hP
      obtain ⟨a, b, p1, p2, p3, p4, p5, p6, p7, p8⟩ := rm_prs_head (rm_e tx cp r W) W.length t (W.length - i) i j (by omega) (by omega)
      have h20 : ¬ (20 : Int32) ≤ nI k := nI_ge (b := 20) (by omega) (by decide)
      have e3 : mx (21 * i + j) = nI (d + 1) := by rw [hT i j (Nat.zero_le _) hi hj, hd]
      have h0 : ¬ nI (d + 1) ≤ 0 := nI_nle (by omega) (by omega)
      rw [wX_findPairs_33]
      simp (disch := omega) only [forall_eq, true_and, rm_vin, nI_clamp, rm_62, rm_20, rm_21, rm_22, rm_p60, rm_p61, rm_p22, rm_p2, nI_1, nI_add, nI_pred, pk_m1, e3]
      refine br_f h20 (br_f h0 (rx_findPair hr hs hl ht ht2 hro hw hT p1 p2 hj p5 p6 ?_))
      simp (disch := omega) only [forall_eq, true_and, rm_vin, nI_clamp, rm_62, rm_20, rm_21, rm_22, rm_p60, rm_p61, rm_p22, rm_p2, nI_1, nI_add, nI_pred, pk_m1]
      refine ih (a + 1) (b + 1) (k + 1) mt (upd mt a (nI b)) (nI a) (nI b) Q (by omega) (by omega) (by omega) (by omega) (fun i' h1 h2 => ?_) (fun mt' pl pt h1 h2 => ?_)
      · rw [pk_un (by omega)]
        exact hm i' (by omega) h2
      · apply hP
        · rw [p8]
          refine ⟨fun i' h3 h4 => ?_, ?_, h1⟩
          · rw [h2 i' (Nat.lt_succ_of_lt h4), pk_un (Nat.ne_of_lt h4)]
            exact hm i' h3 (by have : i' < a := h4; omega)
          · rw [h2 a (Nat.lt_succ_self a), pk_us]
        · intro i' h3
          rw [h2 i' (by omega), pk_un (by omega)]
  have ini : ∀ (d k : Nat), k + d = 20 → wX_findPairs_7 post (nI r) (nI U) (nI M) pl pt (d + 1) (nI k) tx sr bf bh pf pc tc tk nd hd nx fl sz cs cp rn mx (rm_wf mt 0 k (fun _ => -1)) := by
    intro d
    induction d with
    | zero =>
      intro k hk
      have e : k = 20 := by omega
      subst e
      have hmm := (rm_m_le (rm_e tx cp r W) W.length t 0 0).1
      have h5 := lp (rm_m (rm_e tx cp r W) W.length t 0 0) 0 0 0 mt (rm_wf mt 0 20 (fun _ => -1)) pl pt (fun _ => True) rfl (by omega) (Nat.zero_le _) (Nat.zero_le _) (by
        intro i' h1 h2
        have := rm_wf_i (a := mt) (b := 0) (n := 20) (f := fun _ => -1) h2
        rw [Nat.zero_add] at this
        exact this) (by
        intro mt' pl pt h1 h2
        exact H' mt' pl pt h1)
      rw [wX_findPairs_7]
      exact br_t (by decide) ⟨_, h5⟩
    | succ d ih =>
      intro k hk
      have h20 : ¬ (20 : Int32) ≤ nI k := nI_ge (b := 20) (by omega) (by decide)
      have h5 := ih (k + 1) (by omega)
      have e2 := rm_wfS0 mt k (fun _ => -1)
      rw [wX_findPairs_7]
      simp (disch := omega) only [forall_eq, true_and, rm_vin, nI_clamp, rm_62, rm_20, rm_21, rm_22, rm_p60, rm_p61, rm_p22, rm_p2, nI_1, nI_add, nI_pred, pk_m1, e2]
      exact br_f h20 h5
  have h7 := ini 20 0 (by omega)
  rw [rm_wf0] at h7
  exact ⟨_, h7⟩
end
end
section
/-! the reference compares a file with a copy -/
/-- mates by texts -/
def rm_pa (t : Nat) (po : Nat → Int32) : Nat → List (Nat × Nat) → Prop
  | j, [] => ∀ j', j ≤ j' → j' < t → po j' = -1
  | j, p :: R => (∀ j', j ≤ j' → j' < p.2 → po j' = -1) ∧ po p.2 = nI p.1 ∧ rm_pa t po (p.2 + 1) R
section
variable {U M : Nat} {pl pt ys : Int32} {tx sr bf bh pf pc tc tk nd hd nx fl sz cs cp ro mx mt pu fi wk po my : Nat → Int32}
variable {r s t : Nat} {W : List Nat}
theorem ry_fits {post : Int32 → Prop} {i j : Nat} (hr : r < 3) (hi : i < W.length) (hl : W.length ≤ 20) (hj : j < 20) (hf : ∀ k, k < W.length → fi (20 * r + k) = nI (rm_g W k)) (hw : ∀ L, L ∈ W → L < 60) (h1 : rm_e tx cp r W i j = true → post 1) (h0 : rm_e tx cp r W i j = false → post 0) : wpY_fits post (nI U, nI M, ys, tx, sr, bf, bh, tc, pc, tk, pu, nd, sz, fi, cs, cp, hd, wk, po, my) (nI r) (nI i) (nI j) := by
  have hy : rm_g W i < 60 := hw _ (rm_g_mem hi)
  unfold rm_e at h1 h0
  rw [decide_eq_true_eq] at h1
  rw [decide_eq_false_iff_not] at h0
  simp (disch := omega) only [wpY_fits, forall_eq, true_and, rm_vin, nI_clamp, rm_62, rm_20, rm_21, rm_22, rm_p60, rm_p61, rm_p22, rm_p2, nI_1, nI_add, nI_pred, pk_m1, hf i hi]
  exact ⟨h1, h0⟩
theorem ry_countPairs {post : SY → Prop} (hr : r < 3) (hs : sz r = nI W.length) (hl : W.length ≤ 20) (hf : ∀ k, k < W.length → fi (20 * r + k) = nI (rm_g W k)) (hw : ∀ L, L ∈ W → L < 60) (ht : cs r = nI t) (ht2 : t ≤ 20) (H : ∀ my : Nat → Int32, rm_TB 22 (rm_e tx cp r W) W.length t my 0 → post (nI U, nI M, ys, tx, sr, bf, bh, tc, pc, tk, pu, nd, sz, fi, cs, cp, hd, wk, po, my)) : wpY_countPairs post (nI U, nI M, ys, tx, sr, bf, bh, tc, pc, tk, pu, nd, sz, fi, cs, cp, hd, wk, po, my) (nI r) := by
  have inn : ∀ (J : Int32 → (Nat → Int32) → (Nat → Int32) → (Nat → Int32) → (Nat → Int32) → (Nat → Int32) → (Nat → Int32) → (Nat → Int32) → (Nat → Int32) → (Nat → Int32) → (Nat → Int32) → (Nat → Int32) → (Nat → Int32) → (Nat → Int32) → (Nat → Int32) → (Nat → Int32) → (Nat → Int32) → (Nat → Int32) → Prop) (i : Nat), i ≤ W.length → (∀ my : Nat → Int32, rm_TB 22 (rm_e tx cp r W) W.length t my i → J (nI i - 1) tx sr bf bh tc pc tk pu nd sz fi cs cp hd wk po my) → ∀ (k : Nat) (my : Nat → Int32), k ≤ t + 1 → rm_TB 22 (rm_e tx cp r W) W.length t my (i + 1) → (∀ j, k ≤ j → j ≤ t → my (22 * i + j) = nI (rm_m (rm_e tx cp r W) W.length t i j)) → wY_countPairs_18 post J (nI r) (nI i) (nI U) (nI M) ys (k + 1) (nI k - 1) tx sr bf bh tc pc tk pu nd sz fi cs cp hd wk po my := by
    intro J i hi hJ k
    induction k with
    | zero =>
      intro my hk i1 i2
      have h5 := hJ my (by
        intro i' j h1 h2 h3
        by_cases e : i' = i
        · subst e; exact i2 j (Nat.zero_le _) h3
        · exact i1 i' j (by omega) h2 h3)
      rw [wY_countPairs_18]
      simp (disch := omega) only [rm_dneg, forall_eq, rm_j1]
      exact ⟨fun _ => h5, fun h => absurd (by trivial) h⟩
    | succ j ih =>
      intro my hk i1 i2
      have h5 := ih (upd my (22 * i + j) (nI (rm_m (rm_e tx cp r W) W.length t i j))) (by omega) (by
        intro i' j' h1 h2 h3
        rw [pk_un (by omega)]
        exact i1 i' j' h1 h2 h3) (by
        intro j' h1 h2
        by_cases e : j' = j
        · subst e; exact pk_us
        · rw [pk_un (by omega)]
          exact i2 j' (by omega) h2)
      rw [nI_pred]
      have put : ∀ x4 : Int32, x4 = nI (rm_m (rm_e tx cp r W) W.length t i j) → wY_countPairs_142 post J (wY_countPairs_18 post J (nI r) (nI i) (nI U) (nI M) ys (j + 1)) (nI r) (nI i) (nI j) x4 (nI U) (nI M) ys tx sr bf bh tc pc tk pu nd sz fi cs cp hd wk po my := by
        intro x4 e4
        subst e4
        simp (disch := omega) only [wY_countPairs_142, forall_eq, true_and, rm_vin, nI_clamp, rm_62, rm_20, rm_21, rm_22, rm_p60, rm_p61, rm_p22, rm_p2, nI_1, nI_add, nI_pred, pk_m1, rm_j1]
        exact h5
      rw [wY_countPairs_18]
      refine br_f (nI_pos (by omega)) ?_
      simp (disch := omega) only [nI_clamp, hs, ht, nI_leI, rm_vin, true_and]
      refine ⟨fun h => put 0 ?_, fun h => ⟨fun h2 => put 0 ?_, fun h2 => ?_⟩⟩
      · rw [rm_m_s (by omega)]; rfl
      · rw [rm_m_t (by omega)]; rfl
      · have hi' : i < W.length := by omega
        have hj' : j < t := by omega
        have l1 := (rm_m_le (rm_e tx cp r W) W.length t (i + 1) j).1
        have l2 := (rm_m_le (rm_e tx cp r W) W.length t i (j + 1)).1
        have l3 := (rm_m_le (rm_e tx cp r W) W.length t (i + 1) (j + 1)).1
        have e1 : my (22 * i + 22 + j) = nI (rm_m (rm_e tx cp r W) W.length t (i + 1) j) := by
          have := i1 (i + 1) j (Nat.le_refl _) (by omega) (by omega)
          rw [show 22 * (i + 1) + j = 22 * i + 22 + j from by omega] at this
          exact this
        have e2 : my (22 * i + j + 1) = nI (rm_m (rm_e tx cp r W) W.length t i (j + 1)) := i2 (j + 1) (by omega) (by omega)
        have e3 : my (22 * i + 22 + j + 1) = nI (rm_m (rm_e tx cp r W) W.length t (i + 1) (j + 1)) := by
          have := i1 (i + 1) (j + 1) (Nat.le_refl _) (by omega) (by omega)
          rw [show 22 * (i + 1) + (j + 1) = 22 * i + 22 + j + 1 from by omega] at this
          exact this
        rw [rm_m_r hi' hj'] at put
        generalize rm_m (rm_e tx cp r W) W.length t (i + 1) j = a1 at *
        generalize rm_m (rm_e tx cp r W) W.length t i (j + 1) = a2 at *
        generalize rm_m (rm_e tx cp r W) W.length t (i + 1) (j + 1) = a3 at *
        have fin : ∀ (w : Nat), w ≤ 21 → (if rm_e tx cp r W i j = true then a3 + 1 else 0) = w → wY_countPairs_108 post J (wY_countPairs_18 post J (nI r) (nI i) (nI U) (nI M) ys (j + 1)) (nI r) (nI i) (nI j) (nI a1) (nI a2) (nI w) (nI U) (nI M) ys tx sr bf bh tc pc tk pu nd sz fi cs cp hd wk po my := by
          intro w hw21 ew
          rw [ew] at put
          simp (disch := omega) only [wY_countPairs_108, wY_countPairs_124, wY_countPairs_140, nI_leI]
          refine ⟨fun h3 => ⟨fun h4 => put _ ?_, fun h4 => put _ ?_⟩, fun h3 => ⟨fun h4 => put _ ?_, fun h4 => put _ ?_⟩⟩
          · unfold rm_mx; rw [if_pos h3, if_pos h4]
          · unfold rm_mx; rw [if_pos h3, if_neg h4]
          · unfold rm_mx; rw [if_neg h3, if_pos h4]
          · unfold rm_mx; rw [if_neg h3, if_neg h4]
        simp (disch := omega) only [forall_eq, true_and, rm_vin, nI_clamp, rm_62, rm_20, rm_21, rm_22, rm_p60, rm_p61, rm_p22, rm_p2, nI_1, nI_add, nI_pred, pk_m1, e1, e2]
        refine ry_fits hr hi' hl (by omega) hf hw (fun he => ?_) (fun he => ?_)
        · simp (disch := omega) only [forall_eq, true_and, rm_vin, nI_clamp, rm_62, rm_20, rm_21, rm_22, rm_p60, rm_p61, rm_p22, rm_p2, nI_1, nI_add, nI_pred, pk_m1, e3]
          exact br_f rm_i10 (fin (a3 + 1) (by omega) (if_pos he))
        · exact br_t (by trivial) (fin 0 (by omega) (if_neg (by rw [he]; decide)))
  have out : ∀ (k : Nat) (my : Nat → Int32), k ≤ W.length + 1 → rm_TB 22 (rm_e tx cp r W) W.length t my k → wY_countPairs_7 post (nI r) (nI U) (nI M) ys (k + 1) (nI k - 1) tx sr bf bh tc pc tk pu nd sz fi cs cp hd wk po my := by
    intro k
    induction k with
    | zero =>
      intro my hk i1
      have h5 := H my i1
      rw [wY_countPairs_7]
      simp (disch := omega) only [rm_dneg]
      exact ⟨fun _ => h5, fun h => absurd (by trivial) h⟩
    | succ i ih =>
      intro my hk i1
      have h5 := inn (wY_countPairs_7 post (nI r) (nI U) (nI M) ys (i + 1)) i (by omega) (fun my h => ih my (by omega) h) (t + 1) my (Nat.le_refl _) i1 (fun j h1 h2 => by omega)
      rw [nI_pred] at h5
      rw [nI_pred]
      rw [wY_countPairs_7]
      simp (disch := omega) only [forall_eq, true_and, rm_vin, nI_clamp, rm_62, rm_20, rm_21, rm_22, rm_p60, rm_p61, rm_p22, rm_p2, nI_1, nI_add, nI_pred, pk_m1, ht]
      exact br_f (nI_pos (by omega)) ⟨_, h5⟩
  have h6 := out (W.length + 1) my (Nat.le_refl _) (fun i j h1 h2 h3 => by omega)
  rw [nI_pred] at h6
  simp (disch := omega) only [wpY_countPairs, forall_eq, true_and, rm_vin, nI_clamp, rm_62, rm_20, rm_21, rm_22, rm_p60, rm_p61, rm_p22, rm_p2, nI_1, nI_add, nI_pred, pk_m1, hs]
  exact ⟨_, h6⟩
theorem ry_match {post : Int32 → SY → Prop} (hr : r < 3) (hs : sz r = nI W.length) (hl : W.length ≤ 20) (hf : ∀ k, k < W.length → fi (20 * r + k) = nI (rm_g W k)) (hw : ∀ L, L ∈ W → L < 60) (ht : cs r = nI t) (ht2 : t ≤ 20) (H : ∀ (my po : Nat → Int32), rm_pa t po 0 (rm_prs (rm_e tx cp r W) W.length t W.length 0 0 (rm_m (rm_e tx cp r W) W.length t 0 0)) → post (nI (rm_m (rm_e tx cp r W) W.length t 0 0)) (nI U, nI M, ys, tx, sr, bf, bh, tc, pc, tk, pu, nd, sz, fi, cs, cp, hd, wk, po, my)) : wpY_match post (nI U, nI M, ys, tx, sr, bf, bh, tc, pc, tk, pu, nd, sz, fi, cs, cp, hd, wk, po, my) (nI r) := by
  unfold wpY_match
  refine ry_countPairs hr hs hl hf hw ht ht2 (fun my hT => ?_)
  have H' := fun po h => H my po h
  have hm0 : my 0 = nI (rm_m (rm_e tx cp r W) W.length t 0 0) := hT 0 0 (Nat.le_refl _) (Nat.zero_le _) (Nat.zero_le _)
  have hmm := (rm_m_le (rm_e tx cp r W) W.length t 0 0).1
  have inn : ∀ (J : Int32 → Int32 → Int32 → (Nat → Int32) → (Nat → Int32) → (Nat → Int32) → (Nat → Int32) → (Nat → Int32) → (Nat → Int32) → (Nat → Int32) → (Nat → Int32) → (Nat → Int32) → (Nat → Int32) → (Nat → Int32) → (Nat → Int32) → (Nat → Int32) → (Nat → Int32) → (Nat → Int32) → (Nat → Int32) → (Nat → Int32) → Prop) (i j n due : Nat) (po : Nat → Int32), i < W.length → j ≤ t → n ≤ 20 → due ≤ 20 → (rm_fj (rm_cd (rm_e tx cp r W) W.length t i due) j (t - j) = none → J (nI n) (nI j) (nI (i + 1)) tx sr bf bh tc pc tk pu nd sz fi cs cp hd wk po my) → (∀ b, rm_fj (rm_cd (rm_e tx cp r W) W.length t i due) j (t - j) = some b → J (nI (n + 1)) (nI (b + 1)) (nI (i + 1)) tx sr bf bh tc pc tk pu nd sz fi cs cp hd wk (upd po b (nI i)) my) → ∀ (d k : Nat), j + d = k → k ≤ t → wY_match_67 post J (nI r) (nI n) (nI j) (nI i) (nI due) (nI U) (nI M) ys tx sr bf bh tc pc tk pu nd sz fi cs cp hd wk po my (d + 1) (rm_fo (rm_fj (rm_cd (rm_e tx cp r W) W.length t i due) k (t - k))) (nI k - 1) := by
    intro J i j n due po hi hj hn hdue hno hso d
    induction d with
    | zero =>
      intro k hk hkt
      have e : k = j := by omega
      subst e
      rw [wY_match_67]
      refine br_t ((rm_dlt (by omega) (by omega)).mpr (by omega)) ?_
      cases hfj : rm_fj (rm_cd (rm_e tx cp r W) W.length t i due) k (t - k) with
      | none =>
        have h5 := hno hfj
        simp (disch := omega) only [rm_fo, forall_eq, true_and, rm_vin, nI_clamp, rm_62, rm_20, rm_21, rm_22, rm_p60, rm_p61, rm_p22, rm_p2, nI_1, nI_add, nI_pred, pk_m1]
        exact br_t (by decide) h5
      | some b =>
        have h5 := hso b hfj
        obtain ⟨s1, s2, s3, s4⟩ := rm_fj_some hfj
        simp (disch := omega) only [rm_fo, forall_eq, true_and, rm_vin, nI_clamp, rm_62, rm_20, rm_21, rm_22, rm_p60, rm_p61, rm_p22, rm_p2, nI_1, nI_add, nI_pred, pk_m1]
        exact br_f (nI_pos (by omega)) h5
    | succ d ih =>
      intro k hk hkt
      obtain ⟨k, rfl⟩ : ∃ k', k = k' + 1 := ⟨k - 1, by omega⟩
      have h5 := ih k (by omega) (by omega)
      have l3 := (rm_m_le (rm_e tx cp r W) W.length t (i + 1) (k + 1)).1
      have e3 : my (22 * i + 22 + k + 1) = nI (rm_m (rm_e tx cp r W) W.length t (i + 1) (k + 1)) := by
        have := hT (i + 1) (k + 1) (Nat.zero_le _) (by omega) (by omega)
        rw [show 22 * (i + 1) + (k + 1) = 22 * i + 22 + k + 1 from by omega] at this
        exact this
      have efj : rm_fj (rm_cd (rm_e tx cp r W) W.length t i due) k (t - k) = if rm_cd (rm_e tx cp r W) W.length t i due k = true then some k else rm_fj (rm_cd (rm_e tx cp r W) W.length t i due) (k + 1) (t - (k + 1)) := by
        obtain ⟨q, hq⟩ : ∃ q, t - k = q + 1 := ⟨t - k - 1, by omega⟩
        rw [hq, rm_fj, show t - (k + 1) = q from by omega]
      rw [efj] at h5
      rw [nI_pred, wY_match_67]
      refine br_f (nI_nlt (by omega) (by omega)) ?_
      by_cases c0 : due = 0
      · have hcd : rm_cd (rm_e tx cp r W) W.length t i due k ≠ true := by
          intro z
          have := (rm_cd_iff.mp z).2
          omega
        rw [if_neg hcd] at h5
        subst c0
        simp (disch := omega) only [forall_eq, rm_j1]
        exact br_t (by decide) h5
      · refine br_f (nI_nle (by omega) (by omega)) (ry_fits hr hi hl (by omega) hf hw (fun he => ?_) (fun he => ?_))
        · simp (disch := omega) only [forall_eq, true_and, rm_vin, nI_clamp, rm_62, rm_20, rm_21, rm_22, rm_p60, rm_p61, rm_p22, rm_p2, nI_1, nI_add, nI_pred, pk_m1, e3, nI_eq, rm_j1]
          refine br_f rm_i10 ⟨fun h => ?_, fun h => ?_⟩
          · rw [if_pos (rm_cd_iff.mpr ⟨he, h⟩)] at h5
            exact h5
          · rw [if_neg (fun z => h (rm_cd_iff.mp z).2)] at h5
            exact h5
        · rw [if_neg (fun z => by rw [(rm_cd_iff.mp z).1] at he; cases he)] at h5
          simp (disch := omega) only [forall_eq, rm_j1]
          exact br_t (by trivial) h5
  have lp : ∀ (d i j n : Nat) (po : Nat → Int32), i + d = W.length → j ≤ t → n + rm_m (rm_e tx cp r W) W.length t i j = rm_m (rm_e tx cp r W) W.length t 0 0 → (∀ j', j ≤ j' → j' < 21 → po j' = -1) → (∀ po' : Nat → Int32, rm_pa t po' j (rm_prs (rm_e tx cp r W) W.length t d i j (rm_m (rm_e tx cp r W) W.length t i j)) → (∀ j', j' < j → po' j' = po j') → post (nI (rm_m (rm_e tx cp r W) W.length t 0 0)) (nI U, nI M, ys, tx, sr, bf, bh, tc, pc, tk, pu, nd, sz, fi, cs, cp, hd, wk, po', my)) → wY_match_33 post (nI r) (nI U) (nI M) ys (d + 1) (nI n) (nI j) (nI i) tx sr bf bh tc pc tk pu nd sz fi cs cp hd wk po my := by
    intro d
    induction d with
    | zero =>
      intro i j n po hi hj hn hm hP
      rw [rm_m_s (by omega)] at hn
      have h5 := hP po (fun j' h1 h2 => hm j' h1 (by omega)) (fun _ _ => rfl)
      rw [show rm_m (rm_e tx cp r W) W.length t 0 0 = n from by omega] at h5
      rw [wY_match_33]
      simp (disch := omega) only [forall_eq, true_and, rm_vin, nI_clamp, rm_62, rm_20, rm_21, rm_22, rm_p60, rm_p61, rm_p22, rm_p2, nI_1, nI_add, nI_pred, pk_m1, hs, nI_leI]
      exact ⟨fun _ => h5, fun h => absurd h (by omega)⟩
    | succ d ih =>
      intro i j n po hi hj hn hm hP
      have hdue : rm_m (rm_e tx cp r W) W.length t 0 0 - n = rm_m (rm_e tx cp r W) W.length t i j := by omega
      have h5 := inn (wY_match_33 post (nI r) (nI U) (nI M) ys (d + 1)) i j n (rm_m (rm_e tx cp r W) W.length t i j) po (by omega) hj (by omega) (by omega) (by
        intro hfj
        have h6 := rm_none (by omega) hfj
        refine ih (i + 1) j n po (by omega) hj (by omega) hm (fun po' h7 h8 => hP po' ?_ h8)
        rw [rm_prs_n hfj, ← h6]
        exact h7) (by
        intro b hfj
        obtain ⟨s1, s2, s3, s4⟩ := rm_fj_some hfj
        have s5 := (rm_cd_iff.mp s3).2
        refine ih (i + 1) (b + 1) (n + 1) (upd po b (nI i)) (by omega) (by omega) (by omega) (fun j' h1 h2 => ?_) (fun po' h7 h8 => hP po' ?_ (fun j' h9 => ?_))
        · rw [pk_un (by omega)]
          exact hm j' (by omega) h2
        · rw [rm_prs_s hfj, show rm_m (rm_e tx cp r W) W.length t i j - 1 = rm_m (rm_e tx cp r W) W.length t (i + 1) (b + 1) from by omega]
          refine ⟨fun j' h9 h10 => ?_, ?_, h7⟩
          · rw [h8 j' (Nat.lt_succ_of_lt h10), pk_un (Nat.ne_of_lt h10)]
            exact hm j' h9 (by have : j' < b := h10; omega)
          · rw [h8 b (Nat.lt_succ_self b), pk_us]
        · rw [h8 j' (by omega), pk_un (by omega)]) (t - j) t (by omega) (Nat.le_refl _)
      rw [Nat.sub_self] at h5
      rw [wY_match_33]
      simp (disch := omega) only [forall_eq, true_and, rm_vin, nI_clamp, rm_62, rm_20, rm_21, rm_22, rm_p60, rm_p61, rm_p22, rm_p2, nI_1, nI_add, nI_pred, pk_m1, hs, ht, nI_leI, hm0, pk_sub, hdue]
      exact ⟨fun h => absurd h (by omega), fun _ => ⟨_, h5⟩⟩
  have ini : ∀ (d k : Nat), k + d = 21 → wY_match_7 post (nI r) (nI U) (nI M) ys (d + 1) (nI k) tx sr bf bh tc pc tk pu nd sz fi cs cp hd wk (rm_wf po 0 k (fun _ => -1)) my := by
    intro d
    induction d with
    | zero =>
      intro k hk
      have e : k = 21 := by omega
      subst e
      have h5 := lp W.length 0 0 0 (rm_wf po 0 21 (fun _ => -1)) (by omega) (Nat.zero_le _) (by omega) (by
        intro i' h1 h2
        have := rm_wf_i (a := po) (b := 0) (n := 21) (f := fun _ => -1) h2
        rw [Nat.zero_add] at this
        exact this) (by
        intro po' h1 h2
        exact H' po' h1)
      rw [wY_match_7]
      exact br_t (by decide) ⟨_, h5⟩
    | succ d ih =>
      intro k hk
      have h20 : ¬ (21 : Int32) ≤ nI k := nI_ge (b := 21) (by omega) (by decide)
      have h5 := ih (k + 1) (by omega)
      have e2 := rm_wfS0 po k (fun _ => -1)
      rw [wY_match_7]
      simp (disch := omega) only [forall_eq, true_and, rm_vin, nI_clamp, rm_62, rm_20, rm_21, rm_22, rm_p60, rm_p61, rm_p22, rm_p2, nI_1, nI_add, nI_pred, pk_m1, e2]
      exact br_f h20 h5
  have h7 := ini 21 0 (by omega)
  rw [rm_wf0] at h7
  exact ⟨_, h7⟩
end
end
section
/-! the relation -/
def rm_Rm (M : Nat) (CH : Nat → rm_Ch) (nd hd nx fl sz cs fi : Nat → Int32) (r : Nat) (W : List Nat) : Prop := rm_RI M CH nd W (hd r) ∧ W.length ≤ 20 ∧ sz r = nI W.length ∧ rm_XR r W nx fl ∧ (∀ k, k < W.length → fi (20 * r + k) = nI (rm_g W k)) ∧ ∃ t, t ≤ 20 ∧ cs r = nI t
def rm_R (U M : Nat) (bf bh pf pc tc tk nd hd nx fl sz cs pu fi : Nat → Int32) : Prop := ∃ (CH : Nat → rm_Ch) (F : Nat → List Nat), U ≤ 60 ∧ M ≤ 16 ∧ rm_CI U M CH nd ∧ (∀ c, c < M → rm_EC (CH c) bf bh pf pc tc tk c ∧ rm_EY (CH c) pu c) ∧ ∀ r, r < 3 → rm_Rm M CH nd hd nx fl sz cs fi r (F r)
/-- the relation at the head of a turn -/
def i_Rel (_ : Nat) (u : SX) (v : SY) : Prop := ∃ (U M : Nat) (pl pt ys : Int32) (tx sr bf bh pf pc tc tk nd hd nx fl sz cs cp ro mx mt pu fi wk po my : Nat → Int32), rm_R U M bf bh pf pc tc tk nd hd nx fl sz cs pu fi ∧ u = (nI U, nI M, pl, pt, tx, sr, bf, bh, pf, pc, tc, tk, nd, hd, nx, fl, sz, cs, cp, ro, mx, mt) ∧ v = (nI U, nI M, ys, tx, sr, bf, bh, tc, pc, tk, pu, nd, sz, fi, cs, cp, hd, wk, po, my)
theorem i_up {k : Nat} {u : SX} {v : SY} (h : i_Rel k u v) : i_Rel (k + 4) u v := h
theorem rm_BC_of {U M c : Nat} {CH : Nat → rm_Ch} {nd : Nat → Int32} (hC : rm_CI U M CH nd) (hU : U ≤ 60) (hc : c < M) : rm_BC (CH c) := by
  obtain ⟨c1, c2, c3, c4, c5, c6, c7, c8, c9, c10, c11⟩ := hC c hc
  refine ⟨?_, ?_, ?_, by omega, c3, c4⟩
  · rcases c6 with a | ⟨m, hm, hp⟩
    · omega
    · have := c9 m hm
      have := rm_P_lt hC (by omega) hp
      omega
  · rcases c7 with a | ⟨m, hm, hp⟩
    · omega
    · have := c9 m hm
      have := rm_P_lt hC (by omega) hp
      omega
  · intro L hL
    obtain ⟨m, hm, hp⟩ := c8 L hL
    have := c9 m hm
    have := rm_P_lt hC (by omega) hp
    omega
theorem rm_BP_of {U M c : Nat} {CH : Nat → rm_Ch} {nd : Nat → Int32} (hC : rm_CI U M CH nd) (hU : U ≤ 60) (hc : c < M) : rm_cB (CH c) ∉ rm_cP (CH c) := by
  obtain ⟨c1, c2, c3, c4, c5, c6, c7, c8, c9, c10, c11⟩ := hC c hc
  intro h
  have h1 := rm_P_lt hC hc h
  rcases c6 with a | ⟨m, hm, hp⟩
  · omega
  · have := c9 m hm
    have := rm_P_dis hC (by omega) hc hp h
    omega
theorem rm_W60 {U M : Nat} {CH : Nat → rm_Ch} {nd : Nat → Int32} (hC : rm_CI U M CH nd) (hU : U ≤ 60) {W : List Nat} {h : Int32} (hR : rm_RI M CH nd W h) : ∀ L, L ∈ W → L < 60 := fun L hL => Nat.lt_of_lt_of_le (rm_W_lt hC hR hL) hU
theorem rm_WFF {U M : Nat} {CH : Nat → rm_Ch} {nd : Nat → Int32} (hC : rm_CI U M CH nd) (hU : U ≤ 60) {W : List Nat} {h : Int32} (hR : rm_RI M CH nd W h) : (rm_FF W).Nodup := rm_FFnd hR.1 (rm_W60 hC hU hR)
section
variable {U M : Nat} {pl pt ys : Int32} {tx sr bf bh pf pc tc tk nd hd nx fl sz cs cp ro mx mt pu fi wk po my : Nat → Int32}
theorem rm_i {k : Nat} (h : rm_R U M bf bh pf pc tc tk nd hd nx fl sz cs pu fi) : i_Rel k (nI U, nI M, pl, pt, tx, sr, bf, bh, pf, pc, tc, tk, nd, hd, nx, fl, sz, cs, cp, ro, mx, mt) (nI U, nI M, ys, tx, sr, bf, bh, tc, pc, tk, pu, nd, sz, fi, cs, cp, hd, wk, po, my) := ⟨U, M, pl, pt, ys, tx, sr, bf, bh, pf, pc, tc, tk, nd, hd, nx, fl, sz, cs, cp, ro, mx, mt, pu, fi, wk, po, my, h, rfl, rfl⟩
theorem rm_R_cs {r t : Nat} (h : rm_R U M bf bh pf pc tc tk nd hd nx fl sz cs pu fi) (ht : t ≤ 20) : rm_R U M bf bh pf pc tc tk nd hd nx fl sz (upd cs r (nI t)) pu fi := by
  obtain ⟨CH, F, h1, h2, h3, h4, h5⟩ := h
  refine ⟨CH, F, h1, h2, h3, h4, fun q hq => ?_⟩
  obtain ⟨a1, a2, a3, a4, a5, a6⟩ := h5 q hq
  refine ⟨a1, a2, a3, a4, a5, ?_⟩
  by_cases e : q = r
  · subst e
    exact ⟨t, ht, pk_us⟩
  · rw [pk_un e]
    exact a6
end
theorem rm_el {k : Nat} {u : SX} {v : SY} {P : SX → SY → Prop} (h : ∀ (U M : Nat) (pl pt ys : Int32) (tx sr bf bh pf pc tc tk nd hd nx fl sz cs cp ro mx mt pu fi wk po my : Nat → Int32), rm_R U M bf bh pf pc tc tk nd hd nx fl sz cs pu fi → P (nI U, nI M, pl, pt, tx, sr, bf, bh, pf, pc, tc, tk, nd, hd, nx, fl, sz, cs, cp, ro, mx, mt) (nI U, nI M, ys, tx, sr, bf, bh, tc, pc, tk, pu, nd, sz, fi, cs, cp, hd, wk, po, my)) (I : i_Rel k u v) : P u v :=
  Exists.elim I fun U I => Exists.elim I fun M I => Exists.elim I fun pl I => Exists.elim I fun pt I => Exists.elim I fun ys I => Exists.elim I fun tx I => Exists.elim I fun sr I => Exists.elim I fun bf I => Exists.elim I fun bh I => Exists.elim I fun pf I => Exists.elim I fun pc I => Exists.elim I fun tc I => Exists.elim I fun tk I => Exists.elim I fun nd I => Exists.elim I fun hd I => Exists.elim I fun nx I => Exists.elim I fun fl I => Exists.elim I fun sz I => Exists.elim I fun cs I => Exists.elim I fun cp I => Exists.elim I fun ro I => Exists.elim I fun mx I => Exists.elim I fun mt I => Exists.elim I fun pu I => Exists.elim I fun fi I => Exists.elim I fun wk I => Exists.elim I fun po I => Exists.elim I fun my I => by
    obtain ⟨hR, hu, hv⟩ := I
    rw [hu, hv]
    exact h U M pl pt ys tx sr bf bh pf pc tc tk nd hd nx fl sz cs cp ro mx mt pu fi wk po my hR
theorem rm_room0 {r : Nat} {nx fl : Nat → Int32} (h1 : nx (62 * r + 60) = nI 61) (h2 : ∀ L, L < 62 → fl (62 * r + L) = if 60 ≤ L then 1 else 0) : rm_XR r [] nx fl := by
  constructor
  · intro u v h
    rcases rm_adj_cons h with ⟨rfl, rfl⟩ | h
    · exact h1
    · exact absurd h (by simp [rm_adj])
  · intro L hL
    rw [h2 L hL]
    by_cases c : 60 ≤ L
    · rw [if_pos c, if_pos]
      show L ∈ [60, 61]
      have : L = 60 ∨ L = 61 := by omega
      simpa using this
    · rw [if_neg c, if_neg]
      intro hm
      have hm' : L ∈ [60, 61] := hm
      have : L = 60 ∨ L = 61 := by simpa using hm'
      omega
section
variable {U M : Nat} {pl pt ys : Int32} {tx sr bf bh pf pc tc tk nd hd nx fl sz cs cp ro mx mt pu fi wk po my : Nat → Int32}
theorem rx_init {post : SX → Prop} (H : ∀ nx fl : Nat → Int32, (∀ r, r < 3 → rm_XR r [] nx fl) → post (0, 0, 0, 0, (fun _ => 0), (fun _ => 0), (fun _ => 0), (fun _ => 0), (fun _ => 0), (fun _ => 0), (fun _ => 0), (fun _ => 0), (fun _ => 0), (fun _ => 0), nx, fl, (fun _ => 0), (fun _ => 0), (fun _ => 0), (fun _ => 0), (fun _ => 0), (fun _ => 0))) : wpX_init post := by
  have key : ∀ (d k : Nat) (nx fl : Nat → Int32), k + d = 3 → (∀ r, r < k → nx (62 * r + 60) = nI 61) → (∀ r L, r < 3 → L < 62 → fl (62 * r + L) = if r < k ∧ 60 ≤ L then 1 else 0) → wX_init_151 post 0 0 0 0 (d + 1) (nI k) (fun _ => 0) (fun _ => 0) (fun _ => 0) (fun _ => 0) (fun _ => 0) (fun _ => 0) (fun _ => 0) (fun _ => 0) (fun _ => 0) (fun _ => 0) nx fl (fun _ => 0) (fun _ => 0) (fun _ => 0) (fun _ => 0) (fun _ => 0) (fun _ => 0) := by
    intro d
    induction d with
    | zero =>
      intro k nx fl hk i1 i2
      have h5 := H nx fl (fun r hr => rm_room0 (i1 r (by omega)) (fun L hL => by
        rw [i2 r L hr hL]
        by_cases c : 60 ≤ L
        · rw [if_pos ⟨by omega, c⟩, if_pos c]
        · rw [if_neg (fun z => c z.2), if_neg c]))
      rw [wX_init_151]
      exact br_t (nI_le (a := 3) (by omega) (by omega)) h5
    | succ d ih =>
      intro k nx fl hk i1 i2
      have h5 := ih (k + 1) (upd nx (62 * k + 60) 61) (upd (upd fl (62 * k + 60) 1) (62 * k + 61) 1) (by omega) (by
        intro r hr
        by_cases e : r = k
        · subst e; exact pk_us
        · rw [pk_un (by omega)]
          exact i1 r (by omega)) (by
        intro r L hr hL
        by_cases e1 : 62 * r + L = 62 * k + 61
        · rw [e1, pk_us, if_pos (by omega)]
        · rw [pk_un e1]
          by_cases e2 : 62 * r + L = 62 * k + 60
          · rw [e2, pk_us, if_pos (by omega)]
          · rw [pk_un e2, i2 r L hr hL]
            by_cases c : r < k ∧ 60 ≤ L
            · rw [if_pos c, if_pos (by omega)]
            · rw [if_neg c, if_neg (by omega)])
      have h3 : ¬ (3 : Int32) ≤ nI k := nI_ge (b := 3) (by omega) (by decide)
      rw [wX_init_151]
      simp (disch := omega) only [forall_eq, true_and, rm_vin, nI_clamp, rm_62, rm_20, rm_21, rm_22, rm_p60, rm_p61, rm_p22, rm_p2, nI_1, nI_add, nI_pred, pk_m1, rm_nar1]
      exact br_f h3 h5
  have h0 := key 3 0 (fun _ => 0) (fun _ => 0) rfl (fun r hr => absurd hr (by omega)) (fun r L _ _ => by rw [if_neg (by omega)])
  exact ⟨_, h0⟩
theorem i_vc0 : wpX_init (fun u => wpY_init (fun v => i_Rel 0 u v)) := by
  refine rx_init (fun nx fl hX => ?_)
  unfold wpY_init
  refine rm_i (U := 0) (M := 0) ⟨fun _ => (0, 0, 0, 0, []), fun _ => [], by omega, by omega, fun c hc => absurd hc (by omega), fun c hc => absurd hc (by omega), fun r hr => ⟨⟨List.nodup_nil, ?_, ?_, ?_, ?_, ?_, ?_⟩, by simp, rfl, hX r hr, fun k hk => absurd hk (by simp), 0, by omega, rfl⟩⟩
  · intro c hc
    rw [b_0] at hc; cases hc
  · intro c d hc
    rw [b_0] at hc; cases hc
  · intro u v h
    rcases rm_adj_cons h with ⟨rfl, rfl⟩ | h
    · exact Or.inl ⟨rfl, rfl⟩
    · exact absurd h (by simp [rm_adj])
  · intro L hL
    simp at hL
  · intro c L hc
    rw [b_0] at hc; cases hc
  · intro c d L hc
    rw [b_0] at hc; cases hc
end
end
section
/-! the plain methods -/
theorem rm_gt {v : Int32} {t : Nat} (ht : t < 1000) (h : nI (t + 1) ≤ v) : ¬ v ≤ nI t := by
  rw [Int32.le_iff_toInt_le, nI_toInt (by omega)] at h
  rw [Int32.le_iff_toInt_le, nI_toInt (by omega)]
  omega
theorem rm_ge {v : Int32} {t : Nat} (ht : t < 1000) (h : nI t ≤ v) : ¬ v < nI t := by
  rw [Int32.le_iff_toInt_le] at h
  rw [Int32.lt_iff_toInt_lt]
  omega
theorem rm_n0 {v : Int32} {t : Nat} (ht : t < 1000) (h : nI t ≤ v) : ¬ v < 0 := by
  rw [Int32.le_iff_toInt_le, nI_toInt (by omega)] at h
  rw [Int32.lt_iff_toInt_lt, show (0 : Int32).toInt = 0 from by decide]
  omega
theorem rm_c20l {t : Nat} (ht : t < 1000) : (nI t < 20) ↔ t < 20 := nI_ltI (b := 20) (by omega) (by decide)
theorem rm_c20e {t : Nat} (ht : t < 1000) : (nI t = 20) ↔ t = 20 := nI_eq (b := 20) (by omega) (by decide)
/-- a copy's texts from p on moved one place up -/
def rm_sh (b p : Nat) : Nat → (Nat → Int32) → (Nat → Int32)
  | 0, cp => cp
  | d + 1, cp => rm_sh b p d (upd cp (b + (p + (d + 1))) (cp (b + (p + d))))
/-- a copy's texts from k + 1 on moved one place down -/
def rm_dl (b : Nat) : Nat → Nat → (Nat → Int32) → (Nat → Int32)
  | 0, _, cp => cp
  | d + 1, k, cp => rm_dl b d (k + 1) (upd cp (b + k) (cp (b + k + 1)))
section
variable {U M : Nat} {pl pt ys : Int32} {tx sr bf bh pf pc tc tk nd hd nx fl sz cs cp ro mx mt pu fi wk po my : Nat → Int32}
theorem rx_insert {post : Int32 → SX → Prop} {r p t : Nat} {x : Int32} (hr : r < 3) (hp : p ≤ t) (ht : t < 20) (hc : cs r = nI t) (H : post (nI (t + 1)) (nI U, nI M, pl, pt, tx, sr, bf, bh, pf, pc, tc, tk, nd, hd, nx, fl, sz, upd cs r (nI (t + 1)), upd (rm_sh (20 * r) p (t - p) cp) (20 * r + p) x, ro, mx, mt)) : ∃ n, wX_insert_67 post (nI r) (nI p) x (nI (20 * r)) (nI U) (nI M) pl pt n (nI t) tx sr bf bh pf pc tc tk nd hd nx fl sz cs cp ro mx mt := by
  have key : ∀ (d : Nat) (cp : Nat → Int32), p + d ≤ t → post (nI (t + 1)) (nI U, nI M, pl, pt, tx, sr, bf, bh, pf, pc, tc, tk, nd, hd, nx, fl, sz, upd cs r (nI (t + 1)), upd (rm_sh (20 * r) p d cp) (20 * r + p) x, ro, mx, mt) → wX_insert_67 post (nI r) (nI p) x (nI (20 * r)) (nI U) (nI M) pl pt (d + 1) (nI (p + d)) tx sr bf bh pf pc tc tk nd hd nx fl sz cs cp ro mx mt := by
    intro d
    induction d with
    | zero =>
      intro cp hd h5
      rw [wX_insert_67]
      simp (disch := omega) only [forall_eq, true_and, rm_vin, nI_clamp, rm_62, rm_20, rm_21, rm_22, rm_p60, rm_p61, rm_p22, rm_p2, nI_1, nI_add, nI_pred, pk_m1, nI_leI, hc, pk_us]
      exact ⟨fun _ => h5, fun h => absurd h (by omega)⟩
    | succ d ih =>
      intro cp hd h5
      have h6 := ih (upd cp (20 * r + (p + (d + 1))) (cp (20 * r + (p + d)))) (by omega) h5
      have i1 : 20 * r + (p + (d + 1)) - 1 = 20 * r + (p + d) := by omega
      have i2 : nI (p + (d + 1)) + (-1) = nI (p + d) := pk_m1 (p + d)
      rw [wX_insert_67]
      simp (disch := omega) only [forall_eq, true_and, rm_vin, nI_clamp, rm_62, rm_20, rm_21, rm_22, rm_p60, rm_p61, rm_p22, rm_p2, nI_1, nI_add, nI_pred, pk_m1, nI_leI, rm_pr, i1, i2]
      exact ⟨fun h => absurd h (by omega), fun _ => h6⟩
  have h0 := key (t - p) cp (by omega) H
  rw [show p + (t - p) = t from by omega] at h0
  exact ⟨_, h0⟩
theorem ry_insert {post : Int32 → SY → Prop} {r p t : Nat} {x : Int32} (hr : r < 3) (hp : p ≤ t) (ht : t < 20) (hc : cs r = nI t) (H : post (nI (t + 1)) (nI U, nI M, ys, tx, sr, bf, bh, tc, pc, tk, pu, nd, sz, fi, upd cs r (nI (t + 1)), upd (rm_sh (20 * r) p (t - p) cp) (20 * r + p) x, hd, wk, po, my)) : ∃ n, wY_insert_62 post (nI r) (nI p) x (nI U) (nI M) ys n (nI t) tx sr bf bh tc pc tk pu nd sz fi cs cp hd wk po my := by
  have key : ∀ (d : Nat) (cp : Nat → Int32), p + d ≤ t → post (nI (t + 1)) (nI U, nI M, ys, tx, sr, bf, bh, tc, pc, tk, pu, nd, sz, fi, upd cs r (nI (t + 1)), upd (rm_sh (20 * r) p d cp) (20 * r + p) x, hd, wk, po, my) → wY_insert_62 post (nI r) (nI p) x (nI U) (nI M) ys (d + 1) (nI (p + d)) tx sr bf bh tc pc tk pu nd sz fi cs cp hd wk po my := by
    intro d
    induction d with
    | zero =>
      intro cp hd h5
      rw [wY_insert_62]
      simp (disch := omega) only [forall_eq, true_and, rm_vin, nI_clamp, rm_62, rm_20, rm_21, rm_22, rm_p60, rm_p61, rm_p22, rm_p2, nI_1, nI_add, nI_pred, pk_m1, nI_leI, hc, pk_us]
      exact ⟨fun _ => h5, fun h => absurd h (by omega)⟩
    | succ d ih =>
      intro cp hd h5
      have h6 := ih (upd cp (20 * r + (p + (d + 1))) (cp (20 * r + (p + d)))) (by omega) h5
      have i1 : 20 * r + (p + (d + 1)) - 1 = 20 * r + (p + d) := by omega
      have i2 : nI (p + (d + 1)) + (-1) = nI (p + d) := pk_m1 (p + d)
      rw [wY_insert_62]
      simp (disch := omega) only [forall_eq, true_and, rm_vin, nI_clamp, rm_62, rm_20, rm_21, rm_22, rm_p60, rm_p61, rm_p22, rm_p2, nI_1, nI_add, nI_pred, pk_m1, nI_leI, rm_pr, i1, i2]
      exact ⟨fun h => absurd h (by omega), fun _ => h6⟩
  have h0 := key (t - p) cp (by omega) H
  rw [show p + (t - p) = t from by omega] at h0
  exact ⟨_, h0⟩
theorem rx_delete {post : Int32 → SX → Prop} {r p t : Nat} {x : Int32} (hr : r < 3) (hp : p ≤ t) (ht : t < 20) (hc : cs r = nI t) (H : post x (nI U, nI M, pl, pt, tx, sr, bf, bh, pf, pc, tc, tk, nd, hd, nx, fl, sz, cs, rm_dl (20 * r) (t - p) p cp, ro, mx, mt)) : ∃ n, wX_delete_54 post (nI r) (nI (20 * r)) x (nI U) (nI M) pl pt n (nI p) tx sr bf bh pf pc tc tk nd hd nx fl sz cs cp ro mx mt := by
  have key : ∀ (d k : Nat) (cp : Nat → Int32), k + d = t → post x (nI U, nI M, pl, pt, tx, sr, bf, bh, pf, pc, tc, tk, nd, hd, nx, fl, sz, cs, rm_dl (20 * r) d k cp, ro, mx, mt) → wX_delete_54 post (nI r) (nI (20 * r)) x (nI U) (nI M) pl pt (d + 1) (nI k) tx sr bf bh pf pc tc tk nd hd nx fl sz cs cp ro mx mt := by
    intro d
    induction d with
    | zero =>
      intro k cp hd h5
      rw [wX_delete_54]
      simp (disch := omega) only [forall_eq, true_and, rm_vin, nI_clamp, rm_62, rm_20, rm_21, rm_22, rm_p60, rm_p61, rm_p22, rm_p2, nI_1, nI_add, nI_pred, pk_m1, nI_leI, hc]
      exact ⟨fun _ => h5, fun h => absurd h (by omega)⟩
    | succ d ih =>
      intro k cp hd h5
      have h6 := ih (k + 1) (upd cp (20 * r + k) (cp (20 * r + k + 1))) (by omega) h5
      rw [wX_delete_54]
      simp (disch := omega) only [forall_eq, true_and, rm_vin, nI_clamp, rm_62, rm_20, rm_21, rm_22, rm_p60, rm_p61, rm_p22, rm_p2, nI_1, nI_add, nI_pred, pk_m1, nI_leI, hc]
      exact ⟨fun h => absurd h (by omega), fun _ => h6⟩
  exact ⟨_, key (t - p) p cp (by omega) H⟩
theorem ry_delete {post : Int32 → SY → Prop} {r p t : Nat} {x : Int32} (hr : r < 3) (hp : p ≤ t) (ht : t < 20) (hc : cs r = nI t) (H : post x (nI U, nI M, ys, tx, sr, bf, bh, tc, pc, tk, pu, nd, sz, fi, cs, rm_dl (20 * r) (t - p) p cp, hd, wk, po, my)) : ∃ n, wY_delete_52 post (nI r) x (nI U) (nI M) ys n (nI p) tx sr bf bh tc pc tk pu nd sz fi cs cp hd wk po my := by
  have key : ∀ (d k : Nat) (cp : Nat → Int32), k + d = t → post x (nI U, nI M, ys, tx, sr, bf, bh, tc, pc, tk, pu, nd, sz, fi, cs, rm_dl (20 * r) d k cp, hd, wk, po, my) → wY_delete_52 post (nI r) x (nI U) (nI M) ys (d + 1) (nI k) tx sr bf bh tc pc tk pu nd sz fi cs cp hd wk po my := by
    intro d
    induction d with
    | zero =>
      intro k cp hd h5
      rw [wY_delete_52]
      simp (disch := omega) only [forall_eq, true_and, rm_vin, nI_clamp, rm_62, rm_20, rm_21, rm_22, rm_p60, rm_p61, rm_p22, rm_p2, nI_1, nI_add, nI_pred, pk_m1, nI_leI, hc]
      exact ⟨fun _ => h5, fun h => absurd h (by omega)⟩
    | succ d ih =>
      intro k cp hd h5
      have h6 := ih (k + 1) (upd cp (20 * r + k) (cp (20 * r + k + 1))) (by omega) h5
      rw [wY_delete_52]
      simp (disch := omega) only [forall_eq, true_and, rm_vin, nI_clamp, rm_62, rm_20, rm_21, rm_22, rm_p60, rm_p61, rm_p22, rm_p2, nI_1, nI_add, nI_pred, pk_m1, nI_leI, hc]
      exact ⟨fun h => absurd h (by omega), fun _ => h6⟩
  exact ⟨_, key (t - p) p cp (by omega) H⟩
end
theorem i_vc_insert {k : Nat} {u : SX} {v : SY} (I : i_Rel k u v) (hk : k + 4 ≤ 2048) (v1 : Int32) (v2 : Int32) (v3 : Int32) : wpX_insert (fun r u' => wpY_insert (fun r' v' => r' = r ∧ i_Rel (k + 4) u' v') v v1 v2 v3) u v1 v2 v3 := by
  refine rm_el (P := fun u v => wpX_insert (fun r u' => wpY_insert (fun r' v' => r' = r ∧ i_Rel (k + 4) u' v') v v1 v2 v3) u v1 v2 v3) ?_ I
  intro U M pl pt ys tx sr bf bh pf pc tc tk nd hd nx fl sz cs cp ro mx mt pu fi wk po my hR
  have hno : v1 < 0 ∨ nI 3 ≤ v1 ∨ ∃ j : Nat, j < 3 ∧ v1 = nI j := pk_ix v1 (by decide)
  by_cases hx : v1 < 0 ∨ nI 3 ≤ v1
  · simp only [wpX_insert, wpY_insert]
    exact rx_room_f hx (br_t (by trivial) (ry_room_f hx (br_t (by trivial) (by first | exact ⟨rfl, rm_i hR⟩ | exact rm_i hR | exact ⟨trivial, rm_i hR⟩))))
  · obtain ⟨r, hr, rfl⟩ : ∃ j : Nat, j < 3 ∧ v1 = nI j := by
      rcases hno with a | a | a
      · exact absurd (Or.inl a) hx
      · exact absurd (Or.inr a) hx
      · exact a
    obtain ⟨t, ht, hc⟩ : ∃ t, t ≤ 20 ∧ cs r = nI t := by
      obtain ⟨CH, F, h1, h2, h3, h4, h5⟩ := hR
      exact (h5 r hr).2.2.2.2.2
    simp (disch := omega) only [wpX_insert, wpY_insert, forall_eq, true_and, rm_vin, nI_clamp, rm_62, rm_20, rm_21, rm_22, rm_p60, rm_p61, rm_p22, rm_p2, nI_1, nI_add, nI_pred, pk_m1, hc]
    refine rx_room_t hr (br_f rm_i10 ?_)
    rcases pk_ix v2 (n := t + 1) (by omega) with h2 | h2 | ⟨p, hp, rfl⟩
    · exact br_t h2 (ry_room_t hr (br_f rm_i10 (br_t h2 (by first | exact ⟨rfl, rm_i hR⟩ | exact rm_i hR | exact ⟨trivial, rm_i hR⟩))))
    · have n1 := rm_n0 (by omega) h2
      have n2 := rm_gt (by omega) h2
      exact br_f n1 (br_f n2 (ry_room_t hr (br_f rm_i10 (br_f n1 (br_f n2 (by first | exact ⟨rfl, rm_i hR⟩ | exact rm_i hR | exact ⟨trivial, rm_i hR⟩))))))
    · have n1 : ¬ nI p < 0 := nI_pos (by omega)
      have n2 : nI p ≤ nI t := nI_le (by omega) (by omega)
      by_cases h3 : v3 < 0
      · exact br_f n1 (br_t n2 (br_t h3 (ry_room_t hr (br_f rm_i10 (br_f n1 (br_t n2 (br_t h3 (by first | exact ⟨rfl, rm_i hR⟩ | exact rm_i hR | exact ⟨trivial, rm_i hR⟩))))))))
      · by_cases h9 : v3 ≤ 9
        · by_cases h20 : t < 20
          · have n3 : nI t < 20 := (rm_c20l (by omega)).mpr h20
            have n4 : ¬ nI t = 20 := fun z => by have := (rm_c20e (by omega)).mp z; omega
            exact br_f n1 (br_t n2 (br_f h3 (br_t h9 (br_t n3 (rx_insert hr (by omega) h20 hc (ry_room_t hr (br_f rm_i10 (br_f n1 (br_t n2 (br_f h3 (br_t h9 (br_f n4 (ry_insert hr (by omega) h20 hc ⟨rfl, rm_i (rm_R_cs hR (by omega))⟩)))))))))))))
          · have n3 : ¬ nI t < 20 := fun z => h20 ((rm_c20l (by omega)).mp z)
            have n4 : nI t = 20 := (rm_c20e (by omega)).mpr (by omega)
            exact br_f n1 (br_t n2 (br_f h3 (br_t h9 (br_f n3 (ry_room_t hr (br_f rm_i10 (br_f n1 (br_t n2 (br_f h3 (br_t h9 (br_t n4 (by first | exact ⟨rfl, rm_i hR⟩ | exact rm_i hR | exact ⟨trivial, rm_i hR⟩))))))))))))
        · exact br_f n1 (br_t n2 (br_f h3 (br_f h9 (ry_room_t hr (br_f rm_i10 (br_f n1 (br_t n2 (br_f h3 (br_f h9 (by first | exact ⟨rfl, rm_i hR⟩ | exact rm_i hR | exact ⟨trivial, rm_i hR⟩))))))))))
theorem i_vc_delete {k : Nat} {u : SX} {v : SY} (I : i_Rel k u v) (hk : k + 4 ≤ 2048) (v1 : Int32) (v2 : Int32) : wpX_delete (fun r u' => wpY_delete (fun r' v' => r' = r ∧ i_Rel (k + 4) u' v') v v1 v2) u v1 v2 := by
  refine rm_el (P := fun u v => wpX_delete (fun r u' => wpY_delete (fun r' v' => r' = r ∧ i_Rel (k + 4) u' v') v v1 v2) u v1 v2) ?_ I
  intro U M pl pt ys tx sr bf bh pf pc tc tk nd hd nx fl sz cs cp ro mx mt pu fi wk po my hR
  have hno : v1 < 0 ∨ nI 3 ≤ v1 ∨ ∃ j : Nat, j < 3 ∧ v1 = nI j := pk_ix v1 (by decide)
  by_cases hx : v1 < 0 ∨ nI 3 ≤ v1
  · simp only [wpX_delete, wpY_delete]
    exact rx_room_f hx (br_t (by trivial) (ry_room_f hx (br_t (by trivial) (by first | exact ⟨rfl, rm_i hR⟩ | exact rm_i hR | exact ⟨trivial, rm_i hR⟩))))
  · obtain ⟨r, hr, rfl⟩ : ∃ j : Nat, j < 3 ∧ v1 = nI j := by
      rcases hno with a | a | a
      · exact absurd (Or.inl a) hx
      · exact absurd (Or.inr a) hx
      · exact a
    obtain ⟨t, ht, hc⟩ : ∃ t, t ≤ 20 ∧ cs r = nI t := by
      obtain ⟨CH, F, h1, h2, h3, h4, h5⟩ := hR
      exact (h5 r hr).2.2.2.2.2
    rcases pk_ix v2 (n := t) (by omega) with h2 | h2 | ⟨p, hp, rfl⟩
    · simp (disch := omega) only [wpX_delete, wpY_delete, forall_eq, true_and, rm_vin, nI_clamp, rm_62, rm_20, rm_21, rm_22, rm_p60, rm_p61, rm_p22, rm_p2, nI_1, nI_add, nI_pred, pk_m1, hc]
      exact rx_room_t hr (br_f rm_i10 (br_t h2 (ry_room_t hr (br_f rm_i10 (br_t h2 (by first | exact ⟨rfl, rm_i hR⟩ | exact rm_i hR | exact ⟨trivial, rm_i hR⟩))))))
    · have n1 := rm_n0 (by omega) h2
      have n2 := rm_ge (by omega) h2
      simp (disch := omega) only [wpX_delete, wpY_delete, forall_eq, true_and, rm_vin, nI_clamp, rm_62, rm_20, rm_21, rm_22, rm_p60, rm_p61, rm_p22, rm_p2, nI_1, nI_add, nI_pred, pk_m1, hc]
      exact rx_room_t hr (br_f rm_i10 (br_f n1 (br_f n2 (ry_room_t hr (br_f rm_i10 (br_f n1 (br_f n2 (by first | exact ⟨rfl, rm_i hR⟩ | exact rm_i hR | exact ⟨trivial, rm_i hR⟩))))))))
    · have n1 : ¬ nI p < 0 := nI_pos (by omega)
      have n2 : nI p < nI t := nI_lt (by omega) (by omega)
      simp (disch := omega) only [wpX_delete, wpY_delete, forall_eq, true_and, rm_vin, nI_clamp, rm_62, rm_20, rm_21, rm_22, rm_p60, rm_p61, rm_p22, rm_p2, nI_1, nI_add, nI_pred, pk_m1, hc, rm_pr]
      exact rx_room_t hr (br_f rm_i10 (br_f n1 (br_t n2 (rx_delete (t := t - 1) hr (by omega) (by omega) pk_us (ry_room_t hr (br_f rm_i10 (br_f n1 (br_t n2 (ry_delete (t := t - 1) hr (by omega) (by omega) pk_us ⟨rfl, rm_i (rm_R_cs hR (by omega))⟩)))))))))
theorem i_vc_revert {k : Nat} {u : SX} {v : SY} (I : i_Rel k u v) (hk : k + 4 ≤ 2048) (v1 : Int32) : wpX_revert (fun r u' => wpY_revert (fun r' v' => r' = r ∧ i_Rel (k + 4) u' v') v v1) u v1 := by
  refine rm_el (P := fun u v => wpX_revert (fun r u' => wpY_revert (fun r' v' => r' = r ∧ i_Rel (k + 4) u' v') v v1) u v1) ?_ I
  intro U M pl pt ys tx sr bf bh pf pc tc tk nd hd nx fl sz cs cp ro mx mt pu fi wk po my hR
  have hno : v1 < 0 ∨ nI 3 ≤ v1 ∨ ∃ j : Nat, j < 3 ∧ v1 = nI j := pk_ix v1 (by decide)
  by_cases hx : v1 < 0 ∨ nI 3 ≤ v1
  · simp only [wpX_revert, wpY_revert]
    exact rx_room_f hx (br_t (by trivial) (ry_room_f hx (br_t (by trivial) (by first | exact ⟨rfl, rm_i hR⟩ | exact rm_i hR | exact ⟨trivial, rm_i hR⟩))))
  · obtain ⟨r, hr, rfl⟩ : ∃ j : Nat, j < 3 ∧ v1 = nI j := by
      rcases hno with a | a | a
      · exact absurd (Or.inl a) hx
      · exact absurd (Or.inr a) hx
      · exact a
    have hR2 := hR
    obtain ⟨CH, F, h1, h2, h3, h4, h5⟩ := hR
    obtain ⟨a1, a2, a3, a4, a5, a6⟩ := h5 r hr
    have hw := rm_W60 h3 h1 a1
    exact rx_revert hr a4 a3 a2 hw (ry_revert hr a3 a5 a2 hw ⟨rfl, rm_i (rm_R_cs hR2 a2)⟩)
theorem i_vc_changes {k : Nat} {u : SX} {v : SY} (I : i_Rel k u v) (hk : k + 4 ≤ 2048) : wpX_changes (fun r => wpY_changes (fun r' => r' = r ∧ i_Rel (k + 4) u v) v) u := by
  refine rm_el (P := fun u v => wpX_changes (fun r => wpY_changes (fun r' => r' = r ∧ i_Rel (k + 4) u v) v) u) ?_ I
  intro U M pl pt ys tx sr bf bh pf pc tc tk nd hd nx fl sz cs cp ro mx mt pu fi wk po my hR
  exact (by first | exact ⟨rfl, rm_i hR⟩ | exact rm_i hR | exact ⟨trivial, rm_i hR⟩)
theorem i_vc_lines {k : Nat} {u : SX} {v : SY} (I : i_Rel k u v) (hk : k + 4 ≤ 2048) (v1 : Int32) : wpX_lines (fun r => wpY_lines (fun r' => r' = r ∧ i_Rel (k + 4) u v) v v1) u v1 := by
  refine rm_el (P := fun u v => wpX_lines (fun r => wpY_lines (fun r' => r' = r ∧ i_Rel (k + 4) u v) v v1) u v1) ?_ I
  intro U M pl pt ys tx sr bf bh pf pc tc tk nd hd nx fl sz cs cp ro mx mt pu fi wk po my hR
  have hno : v1 < 0 ∨ nI 3 ≤ v1 ∨ ∃ j : Nat, j < 3 ∧ v1 = nI j := pk_ix v1 (by decide)
  by_cases hx : v1 < 0 ∨ nI 3 ≤ v1
  · simp only [wpX_lines, wpY_lines]
    exact rx_room_f hx (br_t (by trivial) (ry_room_f hx (br_t (by trivial) (by first | exact ⟨rfl, rm_i hR⟩ | exact rm_i hR | exact ⟨trivial, rm_i hR⟩))))
  · obtain ⟨r, hr, rfl⟩ : ∃ j : Nat, j < 3 ∧ v1 = nI j := by
      rcases hno with a | a | a
      · exact absurd (Or.inl a) hx
      · exact absurd (Or.inr a) hx
      · exact a
    simp (disch := omega) only [wpX_lines, wpY_lines, forall_eq, true_and, rm_vin, nI_clamp, rm_62, rm_20, rm_21, rm_22, rm_p60, rm_p61, rm_p22, rm_p2, nI_1, nI_add, nI_pred, pk_m1]
    exact rx_room_t hr (br_f rm_i10 (ry_room_t hr (br_f rm_i10 (by first | exact ⟨rfl, rm_i hR⟩ | exact rm_i hR | exact ⟨trivial, rm_i hR⟩))))
theorem i_vc_text {k : Nat} {u : SX} {v : SY} (I : i_Rel k u v) (hk : k + 4 ≤ 2048) (v1 : Int32) (v2 : Int32) : wpX_text (fun r => wpY_text (fun r' => r' = r ∧ i_Rel (k + 4) u v) v v1 v2) u v1 v2 := by
  refine rm_el (P := fun u v => wpX_text (fun r => wpY_text (fun r' => r' = r ∧ i_Rel (k + 4) u v) v v1 v2) u v1 v2) ?_ I
  intro U M pl pt ys tx sr bf bh pf pc tc tk nd hd nx fl sz cs cp ro mx mt pu fi wk po my hR
  have hno : v1 < 0 ∨ nI 3 ≤ v1 ∨ ∃ j : Nat, j < 3 ∧ v1 = nI j := pk_ix v1 (by decide)
  by_cases hx : v1 < 0 ∨ nI 3 ≤ v1
  · simp only [wpX_text, wpY_text]
    exact rx_room_f hx (br_t (by trivial) (ry_room_f hx (br_t (by trivial) (by first | exact ⟨rfl, rm_i hR⟩ | exact rm_i hR | exact ⟨trivial, rm_i hR⟩))))
  · obtain ⟨r, hr, rfl⟩ : ∃ j : Nat, j < 3 ∧ v1 = nI j := by
      rcases hno with a | a | a
      · exact absurd (Or.inl a) hx
      · exact absurd (Or.inr a) hx
      · exact a
    obtain ⟨t, ht, hc⟩ : ∃ t, t ≤ 20 ∧ cs r = nI t := by
      obtain ⟨CH, F, h1, h2, h3, h4, h5⟩ := hR
      exact (h5 r hr).2.2.2.2.2
    rcases pk_ix v2 (n := t) (by omega) with h2 | h2 | ⟨p, hp, rfl⟩
    · simp (disch := omega) only [wpX_text, wpY_text, forall_eq, true_and, rm_vin, nI_clamp, rm_62, rm_20, rm_21, rm_22, rm_p60, rm_p61, rm_p22, rm_p2, nI_1, nI_add, nI_pred, pk_m1, hc]
      exact rx_room_t hr (br_f rm_i10 (br_t h2 (ry_room_t hr (br_f rm_i10 (br_t h2 (by first | exact ⟨rfl, rm_i hR⟩ | exact rm_i hR | exact ⟨trivial, rm_i hR⟩))))))
    · have n1 := rm_n0 (by omega) h2
      have n2 := rm_ge (by omega) h2
      simp (disch := omega) only [wpX_text, wpY_text, forall_eq, true_and, rm_vin, nI_clamp, rm_62, rm_20, rm_21, rm_22, rm_p60, rm_p61, rm_p22, rm_p2, nI_1, nI_add, nI_pred, pk_m1, hc]
      exact rx_room_t hr (br_f rm_i10 (br_f n1 (br_f n2 (ry_room_t hr (br_f rm_i10 (br_f n1 (br_t h2 (by first | exact ⟨rfl, rm_i hR⟩ | exact rm_i hR | exact ⟨trivial, rm_i hR⟩))))))))
    · have n1 : ¬ nI p < 0 := nI_pos (by omega)
      have n2 : nI p < nI t := nI_lt (by omega) (by omega)
      have n3 : ¬ nI t ≤ nI p := nI_ge (by omega) (by omega)
      simp (disch := omega) only [wpX_text, wpY_text, forall_eq, true_and, rm_vin, nI_clamp, rm_62, rm_20, rm_21, rm_22, rm_p60, rm_p61, rm_p22, rm_p2, nI_1, nI_add, nI_pred, pk_m1, hc]
      exact rx_room_t hr (br_f rm_i10 (br_f n1 (br_t n2 (ry_room_t hr (br_f rm_i10 (br_f n1 (br_f n3 (by first | exact ⟨rfl, rm_i hR⟩ | exact rm_i hR | exact ⟨trivial, rm_i hR⟩))))))))
theorem i_vc_weight {k : Nat} {u : SX} {v : SY} (I : i_Rel k u v) (hk : k + 4 ≤ 2048) (v1 : Int32) : wpX_weight (fun r => wpY_weight (fun r' => r' = r ∧ i_Rel (k + 4) u v) v v1) u v1 := by
  refine rm_el (P := fun u v => wpX_weight (fun r => wpY_weight (fun r' => r' = r ∧ i_Rel (k + 4) u v) v v1) u v1) ?_ I
  intro U M pl pt ys tx sr bf bh pf pc tc tk nd hd nx fl sz cs cp ro mx mt pu fi wk po my hR
  have hM : M ≤ 16 := by
    obtain ⟨CH, F, h1, h2, h3, h4, h5⟩ := hR
    exact h2
  rcases pk_ix v1 (n := M) (by omega) with h2 | h2 | ⟨c, hc, rfl⟩
  · simp only [wpX_weight, wpY_weight]
    exact rx_chg_f (Or.inl h2) (br_t (by trivial) (ry_chg_f (Or.inl h2) (br_t (by trivial) (by first | exact ⟨rfl, rm_i hR⟩ | exact rm_i hR | exact ⟨trivial, rm_i hR⟩))))
  · simp only [wpX_weight, wpY_weight]
    exact rx_chg_f (Or.inr h2) (br_t (by trivial) (ry_chg_f (Or.inr h2) (br_t (by trivial) (by first | exact ⟨rfl, rm_i hR⟩ | exact rm_i hR | exact ⟨trivial, rm_i hR⟩))))
  · simp (disch := omega) only [wpX_weight, wpY_weight, forall_eq, true_and, rm_vin, nI_clamp, rm_62, rm_20, rm_21, rm_22, rm_p60, rm_p61, rm_p22, rm_p2, nI_1, nI_add, nI_pred, pk_m1]
    exact rx_chg_t hM hc (br_f rm_i10 (ry_chg_t hM hc (br_f rm_i10 (by first | exact ⟨rfl, rm_i hR⟩ | exact rm_i hR | exact ⟨trivial, rm_i hR⟩))))
theorem i_vc_has {k : Nat} {u : SX} {v : SY} (I : i_Rel k u v) (hk : k + 4 ≤ 2048) (v1 : Int32) (v2 : Int32) : wpX_has (fun r => wpY_has (fun r' => r' = r ∧ i_Rel (k + 4) u v) v v1 v2) u v1 v2 := by
  refine rm_el (P := fun u v => wpX_has (fun r => wpY_has (fun r' => r' = r ∧ i_Rel (k + 4) u v) v v1 v2) u v1 v2) ?_ I
  intro U M pl pt ys tx sr bf bh pf pc tc tk nd hd nx fl sz cs cp ro mx mt pu fi wk po my hR
  have hM : M ≤ 16 := by
    obtain ⟨CH, F, h1, h2, h3, h4, h5⟩ := hR
    exact h2
  have hno : v1 < 0 ∨ nI 3 ≤ v1 ∨ ∃ j : Nat, j < 3 ∧ v1 = nI j := pk_ix v1 (by decide)
  by_cases hx : v1 < 0 ∨ nI 3 ≤ v1
  · simp only [wpX_has, wpY_has]
    exact rx_room_f hx (br_t (by trivial) (ry_room_f hx (br_t (by trivial) (by first | exact ⟨rfl, rm_i hR⟩ | exact rm_i hR | exact ⟨trivial, rm_i hR⟩))))
  · obtain ⟨r, hr, rfl⟩ : ∃ j : Nat, j < 3 ∧ v1 = nI j := by
      rcases hno with a | a | a
      · exact absurd (Or.inl a) hx
      · exact absurd (Or.inr a) hx
      · exact a
    rcases pk_ix v2 (n := M) (by omega) with h2 | h2 | ⟨c, hc, rfl⟩
    · simp (disch := omega) only [wpX_has, wpY_has, forall_eq, true_and, rm_vin, nI_clamp, rm_62, rm_20, rm_21, rm_22, rm_p60, rm_p61, rm_p22, rm_p2, nI_1, nI_add, nI_pred, pk_m1]
      exact rx_room_t hr (br_f rm_i10 (rx_chg_f (Or.inl h2) (br_t (by trivial) (ry_room_t hr (br_f rm_i10 (ry_chg_f (Or.inl h2) (br_t (by trivial) (by first | exact ⟨rfl, rm_i hR⟩ | exact rm_i hR | exact ⟨trivial, rm_i hR⟩))))))))
    · simp (disch := omega) only [wpX_has, wpY_has, forall_eq, true_and, rm_vin, nI_clamp, rm_62, rm_20, rm_21, rm_22, rm_p60, rm_p61, rm_p22, rm_p2, nI_1, nI_add, nI_pred, pk_m1]
      exact rx_room_t hr (br_f rm_i10 (rx_chg_f (Or.inr h2) (br_t (by trivial) (ry_room_t hr (br_f rm_i10 (ry_chg_f (Or.inr h2) (br_t (by trivial) (by first | exact ⟨rfl, rm_i hR⟩ | exact rm_i hR | exact ⟨trivial, rm_i hR⟩))))))))
    · simp (disch := omega) only [wpX_has, wpY_has, forall_eq, true_and, rm_vin, nI_clamp, rm_62, rm_20, rm_21, rm_22, rm_p60, rm_p61, rm_p22, rm_p2, nI_1, nI_add, nI_pred, pk_m1]
      refine rx_room_t hr (br_f rm_i10 (rx_chg_t hM hc (br_f rm_i10 (rx_holds hr (by omega) (fun hb => ?_) (fun hb => ?_)))))
      · exact br_f rm_i10 (ry_room_t hr (br_f rm_i10 (ry_chg_t hM hc (br_f rm_i10 (ry_in (by omega) (fun _ => br_f rm_i10 (by first | exact ⟨rfl, rm_i hR⟩ | exact rm_i hR | exact ⟨trivial, rm_i hR⟩)) (fun h => by rw [hb] at h; cases h))))))
      · exact br_t (by trivial) (ry_room_t hr (br_f rm_i10 (ry_chg_t hM hc (br_f rm_i10 (ry_in (by omega) (fun h => by rw [hb] at h; cases h) (fun _ => br_t (by trivial) (by first | exact ⟨rfl, rm_i hR⟩ | exact rm_i hR | exact ⟨trivial, rm_i hR⟩)))))))
theorem i_vc_needs {k : Nat} {u : SX} {v : SY} (I : i_Rel k u v) (hk : k + 4 ≤ 2048) (v1 : Int32) (v2 : Int32) : wpX_needs (fun r => wpY_needs (fun r' => r' = r ∧ i_Rel (k + 4) u v) v v1 v2) u v1 v2 := by
  refine rm_el (P := fun u v => wpX_needs (fun r => wpY_needs (fun r' => r' = r ∧ i_Rel (k + 4) u v) v v1 v2) u v1 v2) ?_ I
  intro U M pl pt ys tx sr bf bh pf pc tc tk nd hd nx fl sz cs cp ro mx mt pu fi wk po my hR
  have hM : M ≤ 16 := by
    obtain ⟨CH, F, h1, h2, h3, h4, h5⟩ := hR
    exact h2
  have hno : v1 < 0 ∨ nI M ≤ v1 ∨ ∃ j : Nat, j < M ∧ v1 = nI j := pk_ix v1 (by omega)
  by_cases hx : v1 < 0 ∨ nI M ≤ v1
  · simp only [wpX_needs, wpY_needs]
    exact rx_chg_f hx (br_t (by trivial) (ry_chg_f hx (br_t (by trivial) (by first | exact ⟨rfl, rm_i hR⟩ | exact rm_i hR | exact ⟨trivial, rm_i hR⟩))))
  · obtain ⟨d, hd1, rfl⟩ : ∃ j : Nat, j < M ∧ v1 = nI j := by
      rcases hno with a | a | a
      · exact absurd (Or.inl a) hx
      · exact absurd (Or.inr a) hx
      · exact a
    rcases pk_ix v2 (n := M) (by omega) with h2 | h2 | ⟨c, hc, rfl⟩
    · simp (disch := omega) only [wpX_needs, wpY_needs, forall_eq, true_and, rm_vin, nI_clamp, rm_62, rm_20, rm_21, rm_22, rm_p60, rm_p61, rm_p22, rm_p2, nI_1, nI_add, nI_pred, pk_m1]
      exact rx_chg_t hM hd1 (br_f rm_i10 (rx_chg_f (Or.inl h2) (br_t (by trivial) (ry_chg_t hM hd1 (br_f rm_i10 (ry_chg_f (Or.inl h2) (br_t (by trivial) (by first | exact ⟨rfl, rm_i hR⟩ | exact rm_i hR | exact ⟨trivial, rm_i hR⟩))))))))
    · simp (disch := omega) only [wpX_needs, wpY_needs, forall_eq, true_and, rm_vin, nI_clamp, rm_62, rm_20, rm_21, rm_22, rm_p60, rm_p61, rm_p22, rm_p2, nI_1, nI_add, nI_pred, pk_m1]
      exact rx_chg_t hM hd1 (br_f rm_i10 (rx_chg_f (Or.inr h2) (br_t (by trivial) (ry_chg_t hM hd1 (br_f rm_i10 (ry_chg_f (Or.inr h2) (br_t (by trivial) (by first | exact ⟨rfl, rm_i hR⟩ | exact rm_i hR | exact ⟨trivial, rm_i hR⟩))))))))
    · simp (disch := omega) only [wpX_needs, wpY_needs, forall_eq, true_and, rm_vin, nI_clamp, rm_62, rm_20, rm_21, rm_22, rm_p60, rm_p61, rm_p22, rm_p2, nI_1, nI_add, nI_pred, pk_m1]
      refine rx_chg_t hM hd1 (br_f rm_i10 (rx_chg_t hM hc (br_f rm_i10 (ry_chg_t hM hd1 (br_f rm_i10 (ry_chg_t hM hc (br_f rm_i10 (ry_in (by omega) (fun hb => br_f rm_i10 ⟨?_, rm_i hR⟩) (fun hb => br_t (by trivial) ⟨?_, rm_i hR⟩)))))))))
      · rw [rm_bit (by omega), if_pos hb]
      · rw [rm_bit (by omega), if_neg (by rw [hb]; decide)]
end
section
/-! line, source, compare, unrecorded -/
theorem rm_roI {ro : Nat → Int32} {W : List Nat} {k : Nat} (hk : k < W.length) : rm_wf ro 0 W.length (fun k => nI (rm_g W k)) k = nI (rm_g W k) := by
  have := rm_wf_i (a := ro) (b := 0) (n := W.length) (f := fun k => nI (rm_g W k)) hk
  rw [Nat.zero_add] at this
  exact this
theorem i_vc_line {k : Nat} {u : SX} {v : SY} (I : i_Rel k u v) (hk : k + 4 ≤ 2048) (v1 : Int32) (v2 : Int32) : wpX_line (fun r u' => wpY_line (fun r' => r' = r ∧ i_Rel (k + 4) u' v) v v1 v2) u v1 v2 := by
  refine rm_el (P := fun u v => wpX_line (fun r u' => wpY_line (fun r' => r' = r ∧ i_Rel (k + 4) u' v) v v1 v2) u v1 v2) ?_ I
  intro U M pl pt ys tx sr bf bh pf pc tc tk nd hd nx fl sz cs cp ro mx mt pu fi wk po my hR
  have hno : v1 < 0 ∨ nI 3 ≤ v1 ∨ ∃ j : Nat, j < 3 ∧ v1 = nI j := pk_ix v1 (by decide)
  by_cases hx : v1 < 0 ∨ nI 3 ≤ v1
  · simp only [wpX_line, wpY_line]
    exact rx_room_f hx (br_t (by trivial) (ry_room_f hx (br_t (by trivial) (by first | exact ⟨rfl, rm_i hR⟩ | exact rm_i hR | exact ⟨trivial, rm_i hR⟩))))
  · obtain ⟨r, hr, rfl⟩ : ∃ j : Nat, j < 3 ∧ v1 = nI j := by
      rcases hno with a | a | a
      · exact absurd (Or.inl a) hx
      · exact absurd (Or.inr a) hx
      · exact a
    have hR2 := hR
    obtain ⟨CH, F, h1, h2, h3, h4, h5⟩ := hR2
    obtain ⟨a1, a2, a3, a4, a5, a6⟩ := h5 r hr
    have hw := rm_W60 h3 h1 a1
    rcases pk_ix v2 (n := (F r).length) (by omega) with h2 | h2 | ⟨p, hp, rfl⟩
    · simp (disch := omega) only [wpX_line, wpX_lineAt, wpY_line, forall_eq, true_and, rm_vin, nI_clamp, rm_62, rm_20, rm_21, rm_22, rm_p60, rm_p61, rm_p22, rm_p2, nI_1, nI_add, nI_pred, pk_m1, a3]
      exact rx_room_t hr (br_f rm_i10 (br_t h2 (br_f (by decide) (ry_room_t hr (br_f rm_i10 (br_t h2 (by first | exact ⟨rfl, rm_i hR⟩ | exact rm_i hR | exact ⟨trivial, rm_i hR⟩)))))))
    · have n1 := rm_n0 (by omega) h2
      have n2 := rm_ge (by omega) h2
      simp (disch := omega) only [wpX_line, wpX_lineAt, wpY_line, forall_eq, true_and, rm_vin, nI_clamp, rm_62, rm_20, rm_21, rm_22, rm_p60, rm_p61, rm_p22, rm_p2, nI_1, nI_add, nI_pred, pk_m1, a3]
      exact rx_room_t hr (br_f rm_i10 (br_f n1 (br_f n2 (br_f (by decide) (ry_room_t hr (br_f rm_i10 (br_f n1 (br_t h2 (by first | exact ⟨rfl, rm_i hR⟩ | exact rm_i hR | exact ⟨trivial, rm_i hR⟩)))))))))
    · have n1 : ¬ nI p < 0 := nI_pos (by omega)
      have n2 : nI p < nI (F r).length := nI_lt (by omega) (by omega)
      have n3 : ¬ nI (F r).length ≤ nI p := nI_ge (by omega) (by omega)
      have hg : rm_g (F r) p < 60 := hw _ (rm_g_mem hp)
      have hf := a5 p hp
      simp (disch := omega) only [wpX_line, wpX_lineAt, wpY_line, forall_eq, true_and, rm_vin, nI_clamp, rm_62, rm_20, rm_21, rm_22, rm_p60, rm_p61, rm_p22, rm_p2, nI_1, nI_add, nI_pred, pk_m1, a3, hf]
      refine rx_room_t hr (br_f rm_i10 (br_f n1 (br_t n2 (rx_layRow hr a4 a3 a2 hw ?_))))
      simp (disch := omega) only [forall_eq, true_and, rm_vin, nI_clamp, rm_62, rm_20, rm_21, rm_22, rm_p60, rm_p61, rm_p22, rm_p2, nI_1, nI_add, nI_pred, pk_m1, rm_roI hp]
      exact br_t (nI_pos' (by omega)) (ry_room_t hr (br_f rm_i10 (br_f n1 (br_f n3 (by first | exact ⟨rfl, rm_i hR⟩ | exact rm_i hR | exact ⟨trivial, rm_i hR⟩)))))
theorem i_vc_source {k : Nat} {u : SX} {v : SY} (I : i_Rel k u v) (hk : k + 4 ≤ 2048) (v1 : Int32) (v2 : Int32) : wpX_source (fun r u' => wpY_source (fun r' => r' = r ∧ i_Rel (k + 4) u' v) v v1 v2) u v1 v2 := by
  refine rm_el (P := fun u v => wpX_source (fun r u' => wpY_source (fun r' => r' = r ∧ i_Rel (k + 4) u' v) v v1 v2) u v1 v2) ?_ I
  intro U M pl pt ys tx sr bf bh pf pc tc tk nd hd nx fl sz cs cp ro mx mt pu fi wk po my hR
  have hno : v1 < 0 ∨ nI 3 ≤ v1 ∨ ∃ j : Nat, j < 3 ∧ v1 = nI j := pk_ix v1 (by decide)
  by_cases hx : v1 < 0 ∨ nI 3 ≤ v1
  · simp only [wpX_source, wpY_source]
    exact rx_room_f hx (br_t (by trivial) (ry_room_f hx (br_t (by trivial) (by first | exact ⟨rfl, rm_i hR⟩ | exact rm_i hR | exact ⟨trivial, rm_i hR⟩))))
  · obtain ⟨r, hr, rfl⟩ : ∃ j : Nat, j < 3 ∧ v1 = nI j := by
      rcases hno with a | a | a
      · exact absurd (Or.inl a) hx
      · exact absurd (Or.inr a) hx
      · exact a
    have hR2 := hR
    obtain ⟨CH, F, h1, h2, h3, h4, h5⟩ := hR2
    obtain ⟨a1, a2, a3, a4, a5, a6⟩ := h5 r hr
    have hw := rm_W60 h3 h1 a1
    rcases pk_ix v2 (n := (F r).length) (by omega) with h2 | h2 | ⟨p, hp, rfl⟩
    · simp (disch := omega) only [wpX_source, wpX_lineAt, wpY_source, forall_eq, true_and, rm_vin, nI_clamp, rm_62, rm_20, rm_21, rm_22, rm_p60, rm_p61, rm_p22, rm_p2, nI_1, nI_add, nI_pred, pk_m1, a3]
      exact rx_room_t hr (br_f rm_i10 (br_t h2 (br_f (by decide) (ry_room_t hr (br_f rm_i10 (br_t h2 (by first | exact ⟨rfl, rm_i hR⟩ | exact rm_i hR | exact ⟨trivial, rm_i hR⟩)))))))
    · have n1 := rm_n0 (by omega) h2
      have n2 := rm_ge (by omega) h2
      simp (disch := omega) only [wpX_source, wpX_lineAt, wpY_source, forall_eq, true_and, rm_vin, nI_clamp, rm_62, rm_20, rm_21, rm_22, rm_p60, rm_p61, rm_p22, rm_p2, nI_1, nI_add, nI_pred, pk_m1, a3]
      exact rx_room_t hr (br_f rm_i10 (br_f n1 (br_f n2 (br_f (by decide) (ry_room_t hr (br_f rm_i10 (br_f n1 (br_t h2 (by first | exact ⟨rfl, rm_i hR⟩ | exact rm_i hR | exact ⟨trivial, rm_i hR⟩)))))))))
    · have n1 : ¬ nI p < 0 := nI_pos (by omega)
      have n2 : nI p < nI (F r).length := nI_lt (by omega) (by omega)
      have n3 : ¬ nI (F r).length ≤ nI p := nI_ge (by omega) (by omega)
      have hg : rm_g (F r) p < 60 := hw _ (rm_g_mem hp)
      have hf := a5 p hp
      simp (disch := omega) only [wpX_source, wpX_lineAt, wpY_source, forall_eq, true_and, rm_vin, nI_clamp, rm_62, rm_20, rm_21, rm_22, rm_p60, rm_p61, rm_p22, rm_p2, nI_1, nI_add, nI_pred, pk_m1, a3, hf]
      refine rx_room_t hr (br_f rm_i10 (br_f n1 (br_t n2 (rx_layRow hr a4 a3 a2 hw ?_))))
      simp (disch := omega) only [forall_eq, true_and, rm_vin, nI_clamp, rm_62, rm_20, rm_21, rm_22, rm_p60, rm_p61, rm_p22, rm_p2, nI_1, nI_add, nI_pred, pk_m1, rm_roI hp]
      exact br_t (nI_pos' (by omega)) (ry_room_t hr (br_f rm_i10 (br_f n1 (br_f n3 (by first | exact ⟨rfl, rm_i hR⟩ | exact rm_i hR | exact ⟨trivial, rm_i hR⟩)))))
section
variable {U M : Nat} {pl pt ys : Int32} {tx sr bf bh pf pc tc tk nd hd nx fl sz cs cp ro mx mt pu fi wk po my : Nat → Int32}
theorem rx_sameFiles {post : Int32 → Prop} {r q : Nat} {W V : List Nat} (hr : r < 3) (hq : q < 3) (hX : rm_XR r W nx fl) (hV : rm_XR q V nx fl) (hl : W.length ≤ 20) (hw : ∀ L, L ∈ W → L < 60) (hv : ∀ L, L ∈ V → L < 60) (h1 : W = V → post 1) (h0 : W ≠ V → post 0) : wpX_sameFiles post (nI U, nI M, pl, pt, tx, sr, bf, bh, pf, pc, tc, tk, nd, hd, nx, fl, sz, cs, cp, ro, mx, mt) (nI r) (nI q) := by
  have key : ∀ (w v w1 v1 : List Nat) (t k : Nat), W = w1 ++ w → V = v1 ++ v → rm_lst 60 w1 = t → rm_lst 60 v1 = t → t ≤ 60 → w1.length = k → (w = v → post 1) → (w ≠ v → post 0) → wX_sameFiles_6 post (nI r) (nI q) (nI U) (nI M) pl pt tx sr bf bh pf pc tc tk nd hd nx fl sz cs cp ro mx mt (w.length + 1) (nI t) (nI k) := by
    intro w
    induction w with
    | nil =>
      intro v w1 v1 t k e1 e2 l1 l2 ht hk p1 p0
      have n1 := rm_XRn hX e1 l1
      have n2 := rm_XRn hV e2 l2
      have hk2 : k ≤ 20 := by
        have : W.length = w1.length + 0 := by rw [e1]; simp
        omega
      have h20 : ¬ (20 : Int32) < nI k := nI_nlt (b := k) (a := 20) hk2 (by decide)
      rw [wX_sameFiles_6]
      simp (disch := omega) only [forall_eq, true_and, rm_vin, nI_clamp, rm_62, rm_20, rm_21, rm_22, rm_p60, rm_p61, rm_p22, rm_p2, nI_1, nI_add, nI_pred, pk_m1, n1, n2]
      refine br_f h20 ?_
      cases v with
      | nil => exact br_t (by trivial) (br_t (by trivial) (p1 rfl))
      | cons y v =>
        have hy : y < 60 := hv y (by rw [e2]; simp)
        refine br_f (fun z => ?_) (p0 (fun z => by cases z))
        have := (nI_eq (a := 61) (b := y) (by decide) (by omega)).mp z
        omega
    | cons x w ih =>
      intro v w1 v1 t k e1 e2 l1 l2 ht hk p1 p0
      have n1 := rm_XRn hX e1 l1
      have n2 := rm_XRn hV e2 l2
      have hx : x < 60 := hw x (by rw [e1]; simp)
      have hk2 : k ≤ 20 := by
        have : W.length = w1.length + (w.length + 1) := by rw [e1]; simp
        omega
      have h20 : ¬ (20 : Int32) < nI k := nI_nlt (b := k) (a := 20) hk2 (by decide)
      rw [wX_sameFiles_6]
      simp (disch := omega) only [forall_eq, true_and, rm_vin, nI_clamp, rm_62, rm_20, rm_21, rm_22, rm_p60, rm_p61, rm_p22, rm_p2, nI_1, nI_add, nI_pred, pk_m1, n1, n2]
      refine br_f h20 ?_
      cases v with
      | nil =>
        refine br_f (fun z => ?_) (p0 (fun z => by cases z))
        have := (nI_eq (a := x) (b := 61) (by omega) (by decide)).mp z
        omega
      | cons y v =>
        have hy : y < 60 := hv y (by rw [e2]; simp)
        by_cases e : x = y
        · subst e
          refine br_t (by trivial) (br_f (fun z => ?_) (ih v (w1 ++ [x]) (v1 ++ [x]) x (k + 1) (by rw [e1]; simp) (by rw [e2]; simp) (rm_lst_snoc _ _ _) (rm_lst_snoc _ _ _) (by omega) (by simp [hk]) (fun z => p1 (by rw [z])) (fun z => p0 (fun z2 => z (by cases z2; rfl)))))
          have := (nI_eq (a := x) (b := 61) (by omega) (by decide)).mp z
          omega
        · refine br_f (fun z => ?_) (p0 (fun z => by cases z; exact e rfl))
          exact e ((nI_eq (a := x) (b := y) (by omega) (by omega)).mp z)
  unfold wpX_sameFiles
  exact ⟨_, key W V [] [] 60 0 rfl rfl rfl rfl (by omega) rfl h1 h0⟩
theorem ry_same {post : Int32 → Prop} {r q : Nat} {W V : List Nat} (hr : r < 3) (hq : q < 3) (hs : sz r = nI W.length) (hs2 : sz q = nI V.length) (hf : ∀ k, k < W.length → fi (20 * r + k) = nI (rm_g W k)) (hf2 : ∀ k, k < V.length → fi (20 * q + k) = nI (rm_g V k)) (hl : W.length ≤ 20) (hl2 : V.length ≤ 20) (hw : ∀ L, L ∈ W → L < 60) (hv : ∀ L, L ∈ V → L < 60) (h1 : W = V → wY_compare_96 post (nI r) (nI q) 1 (nI U) (nI M) ys tx sr bf bh tc pc tk pu nd sz fi cs cp hd wk po my) (h0 : W ≠ V → wY_compare_96 post (nI r) (nI q) 0 (nI U) (nI M) ys tx sr bf bh tc pc tk pu nd sz fi cs cp hd wk po my) :
    (nI W.length = nI V.length → ∃ n, wY_compare_42 post (nI r) (nI q) (nI U) (nI M) ys tx sr bf bh tc pc tk pu nd sz fi cs cp hd wk po my n 1 0) ∧ (¬ nI W.length = nI V.length → ∃ n, wY_compare_42 post (nI r) (nI q) (nI U) (nI M) ys tx sr bf bh tc pc tk pu nd sz fi cs cp hd wk po my n 0 0) := by
  have z0 : ∀ (n k : Nat), k ≤ 20 → W ≠ V → wY_compare_42 post (nI r) (nI q) (nI U) (nI M) ys tx sr bf bh tc pc tk pu nd sz fi cs cp hd wk po my (n + 1) 0 (nI k) := by
    intro n k hk hne
    rw [wY_compare_42]
    simp (disch := omega) only [forall_eq, true_and, rm_vin, nI_clamp, rm_62, rm_20, rm_21, rm_22, rm_p60, rm_p61, rm_p22, rm_p2, nI_1, nI_add, nI_pred, pk_m1, hs]
    exact br_c (fun _ => h0 hne) (fun _ => br_t (by trivial) (h0 hne))
  constructor
  · intro hlen
    have hle : W.length = V.length := (nI_eq (by omega) (by omega)).mp hlen
    have key : ∀ (d k : Nat), k + d = W.length → (∀ j, j < k → rm_g W j = rm_g V j) → wY_compare_42 post (nI r) (nI q) (nI U) (nI M) ys tx sr bf bh tc pc tk pu nd sz fi cs cp hd wk po my (d + 2) 1 (nI k) := by
      intro d
      induction d with
      | zero =>
        intro k hk hp
        have e : W = V := rm_g_ext hle (fun j hj => hp j (by omega))
        rw [wY_compare_42]
        simp (disch := omega) only [forall_eq, true_and, rm_vin, nI_clamp, rm_62, rm_20, rm_21, rm_22, rm_p60, rm_p61, rm_p22, rm_p2, nI_1, nI_add, nI_pred, pk_m1, hs, nI_leI]
        exact ⟨fun _ => h1 e, fun h => absurd h (by omega)⟩
      | succ d ih =>
        intro k hk hp
        have f1 := hf k (by omega)
        have f2 := hf2 k (by omega)
        have g1 : rm_g W k < 60 := hw _ (rm_g_mem (by omega))
        have g2 : rm_g V k < 60 := hv _ (rm_g_mem (by omega))
        rw [show d + 1 + 2 = (d + 2) + 1 from rfl, wY_compare_42]
        simp (disch := omega) only [forall_eq, true_and, rm_vin, nI_clamp, rm_62, rm_20, rm_21, rm_22, rm_p60, rm_p61, rm_p22, rm_p2, nI_1, nI_add, nI_pred, pk_m1, hs, nI_leI, f1, f2, nI_eq]
        refine ⟨fun h => absurd h (by omega), fun _ => br_f rm_i10 ⟨fun h => ih (k + 1) (by omega) (fun j hj => ?_), fun h => z0 (d + 1) (k + 1) (by omega) (fun z => h (by rw [z]))⟩⟩
        by_cases e : j = k
        · subst e; exact h
        · exact hp j (by omega)
    exact ⟨_, key W.length 0 (by omega) (fun j hj => absurd hj (by omega))⟩
  · intro hlen
    exact ⟨_, z0 0 0 (by omega) (fun z => hlen (by rw [z]))⟩
end
theorem i_vc_compare {k : Nat} {u : SX} {v : SY} (I : i_Rel k u v) (hk : k + 4 ≤ 2048) (v1 : Int32) (v2 : Int32) : wpX_compare (fun r => wpY_compare (fun r' => r' = r ∧ i_Rel (k + 4) u v) v v1 v2) u v1 v2 := by
  refine rm_el (P := fun u v => wpX_compare (fun r => wpY_compare (fun r' => r' = r ∧ i_Rel (k + 4) u v) v v1 v2) u v1 v2) ?_ I
  intro U M pl pt ys tx sr bf bh pf pc tc tk nd hd nx fl sz cs cp ro mx mt pu fi wk po my hR
  have hno : v1 < 0 ∨ nI 3 ≤ v1 ∨ ∃ j : Nat, j < 3 ∧ v1 = nI j := pk_ix v1 (by decide)
  by_cases hx : v1 < 0 ∨ nI 3 ≤ v1
  · simp only [wpX_compare, wpY_compare]
    exact rx_room_f hx (br_t (by trivial) (ry_room_f hx (br_t (by trivial) (by first | exact ⟨rfl, rm_i hR⟩ | exact rm_i hR | exact ⟨trivial, rm_i hR⟩))))
  · obtain ⟨r, hr, rfl⟩ : ∃ j : Nat, j < 3 ∧ v1 = nI j := by
      rcases hno with a | a | a
      · exact absurd (Or.inl a) hx
      · exact absurd (Or.inr a) hx
      · exact a
    have hno2 : v2 < 0 ∨ nI 3 ≤ v2 ∨ ∃ j : Nat, j < 3 ∧ v2 = nI j := pk_ix v2 (by decide)
    by_cases hx2 : v2 < 0 ∨ nI 3 ≤ v2
    · simp only [wpX_compare, wpY_compare]
      exact rx_room_t hr (br_f rm_i10 (rx_room_f hx2 (br_t (by trivial) (ry_room_t hr (br_f rm_i10 (ry_room_f hx2 (br_t (by trivial) (by first | exact ⟨rfl, rm_i hR⟩ | exact rm_i hR | exact ⟨trivial, rm_i hR⟩))))))))
    · obtain ⟨q, hq, rfl⟩ : ∃ j : Nat, j < 3 ∧ v2 = nI j := by
        rcases hno2 with a | a | a
        · exact absurd (Or.inl a) hx2
        · exact absurd (Or.inr a) hx2
        · exact a
      have hR2 := hR
      obtain ⟨CH, F, h1, h2, h3, h4, h5⟩ := hR2
      obtain ⟨a1, a2, a3, a4, a5, a6⟩ := h5 r hr
      obtain ⟨b1, b2, b3, b4, b5, b6⟩ := h5 q hq
      have hw := rm_W60 h3 h1 a1
      have hv := rm_W60 h3 h1 b1
      simp (disch := omega) only [wpX_compare, forall_eq, true_and, rm_vin, nI_clamp, rm_62, rm_20, rm_21, rm_22, rm_p60, rm_p61, rm_p22, rm_p2, nI_1, nI_add, nI_pred, pk_m1]
      refine rx_room_t hr (br_f rm_i10 (rx_room_t hq (br_f rm_i10 (rx_sameFiles hr hq a4 b4 a2 hw hv (fun e => ?_) (fun e => ?_)))))
      · by_cases hh : hd r = hd q
        · refine br_t hh (br_f rm_i10 ?_)
          simp (disch := omega) only [wpY_compare, forall_eq, true_and, rm_vin, nI_clamp, rm_62, rm_20, rm_21, rm_22, rm_p60, rm_p61, rm_p22, rm_p2, nI_1, nI_add, nI_pred, pk_m1, a3, b3]
          refine ry_room_t hr (br_f rm_i10 (ry_room_t hq (br_f rm_i10 (ry_same hr hq a3 b3 a5 b5 a2 b2 hw hv (fun _ => ?_) (fun z => absurd e z)))))
          simp (disch := omega) only [wY_compare_96, forall_eq, true_and, rm_vin, nI_clamp, rm_62, rm_20, rm_21, rm_22, rm_p60, rm_p61, rm_p22, rm_p2, nI_1, nI_add, nI_pred, pk_m1]
          exact br_t hh (br_f rm_i10 (by first | exact ⟨rfl, rm_i hR⟩ | exact rm_i hR | exact ⟨trivial, rm_i hR⟩))
        · refine br_f hh (br_f rm_i10 ?_)
          simp (disch := omega) only [wpY_compare, forall_eq, true_and, rm_vin, nI_clamp, rm_62, rm_20, rm_21, rm_22, rm_p60, rm_p61, rm_p22, rm_p2, nI_1, nI_add, nI_pred, pk_m1, a3, b3]
          refine ry_room_t hr (br_f rm_i10 (ry_room_t hq (br_f rm_i10 (ry_same hr hq a3 b3 a5 b5 a2 b2 hw hv (fun _ => ?_) (fun z => absurd e z)))))
          simp (disch := omega) only [wY_compare_96, forall_eq, true_and, rm_vin, nI_clamp, rm_62, rm_20, rm_21, rm_22, rm_p60, rm_p61, rm_p22, rm_p2, nI_1, nI_add, nI_pred, pk_m1]
          exact br_f hh (br_f rm_i10 (by first | exact ⟨rfl, rm_i hR⟩ | exact rm_i hR | exact ⟨trivial, rm_i hR⟩))
      · by_cases hh : hd r = hd q
        · refine br_t hh (br_t (by trivial) ?_)
          simp (disch := omega) only [wpY_compare, forall_eq, true_and, rm_vin, nI_clamp, rm_62, rm_20, rm_21, rm_22, rm_p60, rm_p61, rm_p22, rm_p2, nI_1, nI_add, nI_pred, pk_m1, a3, b3]
          refine ry_room_t hr (br_f rm_i10 (ry_room_t hq (br_f rm_i10 (ry_same hr hq a3 b3 a5 b5 a2 b2 hw hv (fun z => absurd z e) (fun _ => ?_)))))
          simp (disch := omega) only [wY_compare_96, forall_eq, true_and, rm_vin, nI_clamp, rm_62, rm_20, rm_21, rm_22, rm_p60, rm_p61, rm_p22, rm_p2, nI_1, nI_add, nI_pred, pk_m1]
          exact br_t hh (br_t (by trivial) (by first | exact ⟨rfl, rm_i hR⟩ | exact rm_i hR | exact ⟨trivial, rm_i hR⟩))
        · refine br_f hh (br_t (by trivial) ?_)
          simp (disch := omega) only [wpY_compare, forall_eq, true_and, rm_vin, nI_clamp, rm_62, rm_20, rm_21, rm_22, rm_p60, rm_p61, rm_p22, rm_p2, nI_1, nI_add, nI_pred, pk_m1, a3, b3]
          refine ry_room_t hr (br_f rm_i10 (ry_room_t hq (br_f rm_i10 (ry_same hr hq a3 b3 a5 b5 a2 b2 hw hv (fun z => absurd z e) (fun _ => ?_)))))
          simp (disch := omega) only [wY_compare_96, forall_eq, true_and, rm_vin, nI_clamp, rm_62, rm_20, rm_21, rm_22, rm_p60, rm_p61, rm_p22, rm_p2, nI_1, nI_add, nI_pred, pk_m1]
          exact br_f hh (br_t (by trivial) (by first | exact ⟨rfl, rm_i hR⟩ | exact rm_i hR | exact ⟨trivial, rm_i hR⟩))
theorem i_vc_unrecorded {k : Nat} {u : SX} {v : SY} (I : i_Rel k u v) (hk : k + 4 ≤ 2048) (v1 : Int32) : wpX_unrecorded (fun r u' => wpY_unrecorded (fun r' v' => r' = r ∧ i_Rel (k + 4) u' v') v v1) u v1 := by
  refine rm_el (P := fun u v => wpX_unrecorded (fun r u' => wpY_unrecorded (fun r' v' => r' = r ∧ i_Rel (k + 4) u' v') v v1) u v1) ?_ I
  intro U M pl pt ys tx sr bf bh pf pc tc tk nd hd nx fl sz cs cp ro mx mt pu fi wk po my hR
  have hno : v1 < 0 ∨ nI 3 ≤ v1 ∨ ∃ j : Nat, j < 3 ∧ v1 = nI j := pk_ix v1 (by decide)
  by_cases hx : v1 < 0 ∨ nI 3 ≤ v1
  · simp only [wpX_unrecorded, wpY_unrecorded]
    exact rx_room_f hx (br_t (by trivial) (ry_room_f hx (br_t (by trivial) (by first | exact ⟨rfl, rm_i hR⟩ | exact rm_i hR | exact ⟨trivial, rm_i hR⟩))))
  · obtain ⟨r, hr, rfl⟩ : ∃ j : Nat, j < 3 ∧ v1 = nI j := by
      rcases hno with a | a | a
      · exact absurd (Or.inl a) hx
      · exact absurd (Or.inr a) hx
      · exact a
    have hR2 := hR
    obtain ⟨CH, F, h1, h2, h3, h4, h5⟩ := hR2
    obtain ⟨a1, a2, a3, a4, a5, t, ht, hc⟩ := h5 r hr
    have hw := rm_W60 h3 h1 a1
    simp only [wpX_unrecorded]
    refine rx_room_t hr (br_f rm_i10 (rx_compareCopy hr a4 a3 a2 hw hc ht (fun mx hT => ?_)))
    have hm0 : mx 0 = nI (rm_m (rm_e tx cp r (F r)) (F r).length t 0 0) := hT 0 0 (Nat.le_refl _) (Nat.zero_le _) (Nat.zero_le _)
    simp (disch := omega) only [forall_eq, true_and, rm_vin, nI_clamp, rm_62, rm_20, rm_21, rm_22, rm_p60, rm_p61, rm_p22, rm_p2, nI_1, nI_add, nI_pred, pk_m1, a3, hc, hm0, wpY_unrecorded]
    refine ry_room_t hr (br_f rm_i10 (ry_match hr a3 a2 a5 hw hc ht (fun my po hp => ?_)))
    simp (disch := omega) only [forall_eq, true_and, rm_vin, nI_clamp, rm_62, rm_20, rm_21, rm_22, rm_p60, rm_p61, rm_p22, rm_p2, nI_1, nI_add, nI_pred, pk_m1, a3, hc]
    first | exact ⟨rfl, rm_i hR⟩ | exact rm_i hR | exact ⟨trivial, rm_i hR⟩
end
section
/-! a room's row changed: the relation; uncommit -/
theorem rm_XR_congr {q : Nat} {W : List Nat} {nx fl nx' fl' : Nat → Int32} (hX : rm_XR q W nx fl) (hw : ∀ L, L ∈ W → L < 60) (h : ∀ L, L < 62 → nx' (62 * q + L) = nx (62 * q + L) ∧ fl' (62 * q + L) = fl (62 * q + L)) : rm_XR q W nx' fl' := by
  constructor
  · intro u v huv
    have hm := (rm_adj_mem huv).1
    have hu : u < 62 := by
      rcases List.mem_cons.mp hm with a | a
      · omega
      · rcases List.mem_append.mp a with a | a
        · have := hw u a; omega
        · have : u = 61 := by simpa using a
          omega
    rw [(h u hu).1]
    exact hX.1 u v huv
  · intro L hL
    rw [(h L hL).2]
    exact hX.2 L hL
theorem rm_R_set {U M r : Nat} {bf bh pf pc tc tk nd hd nx fl sz cs pu fi hd' nx' fl' sz' cs' fi' : Nat → Int32} {CH : Nat → rm_Ch} {F : Nat → List Nat} {W : List Nat} (h1 : U ≤ 60) (h2 : M ≤ 16) (h3 : rm_CI U M CH nd) (h4 : ∀ c, c < M → rm_EC (CH c) bf bh pf pc tc tk c ∧ rm_EY (CH c) pu c) (h5 : ∀ q, q < 3 → rm_Rm M CH nd hd nx fl sz cs fi q (F q))
    (hW : rm_Rm M CH nd hd' nx' fl' sz' cs' fi' r W) (oth : ∀ q, q < 3 → q ≠ r → hd' q = hd q ∧ sz' q = sz q ∧ cs' q = cs q ∧ (∀ L, L < 62 → nx' (62 * q + L) = nx (62 * q + L) ∧ fl' (62 * q + L) = fl (62 * q + L)) ∧ ∀ k, k < 20 → fi' (20 * q + k) = fi (20 * q + k)) : rm_R U M bf bh pf pc tc tk nd hd' nx' fl' sz' cs' pu fi' := by
  refine ⟨CH, fun q => if q = r then W else F q, h1, h2, h3, h4, fun q hq => ?_⟩
  by_cases e : q = r
  · dsimp only
    rw [if_pos e, e]
    exact hW
  · dsimp only
    rw [if_neg e]
    obtain ⟨a1, a2, a3, a4, a5, a6⟩ := h5 q hq
    obtain ⟨o1, o2, o3, o4, o5⟩ := oth q hq e
    have hw := rm_W60 h3 h1 a1
    refine ⟨?_, a2, ?_, rm_XR_congr a4 hw o4, fun k hk => ?_, ?_⟩
    · rw [o1]; exact a1
    · rw [o2]; exact a3
    · rw [o5 k (by omega)]; exact a5 k hk
    · rw [o3]; exact a6
theorem rm_szE (p n m t : Nat) : nI (p + n + t) + (nI m - nI n) = nI (p + m + t) := by
  rw [← nI_add, ← nI_add, ← nI_add, ← nI_add]
  grind
theorem rm_lnk_q {r q L B E : Nat} {Q : List Nat} {nx : Nat → Int32} (hne : q ≠ r) (hL : L < 62) (hB : B ≤ 60) (hQ : ∀ y, y ∈ Q → y < 60) : rm_lnk r nx B Q E (62 * q + L) = nx (62 * q + L) := by
  apply rm_lnk_o
  intro y hy e
  rcases List.mem_cons.mp hy with a | a
  · omega
  · have := hQ y a
    omega
theorem rm_st_q {r q L : Nat} {b : Int32} {Q : List Nat} {fl : Nat → Int32} (hne : q ≠ r) (hL : L < 62) (hQ : ∀ y, y ∈ Q → y < 60) : rm_st r b fl Q (62 * q + L) = fl (62 * q + L) := by
  apply rm_st_o
  intro y hy e
  have := hQ y hy
  omega
theorem rm_PltB {x : rm_Ch} (hb : rm_BC x) : ∀ y, y ∈ rm_cP x → y < 60 := by
  obtain ⟨b1, b2, b3, b4, b5, b6⟩ := hb
  intro y hy
  have := rm_P_mem.mp hy
  omega
theorem rm_runle {B E : Nat} {Q : List Nat} (hB : B ≤ 60) (hE : E ≤ 61) (hQ : ∀ y, y ∈ Q → y < 60) : ∀ L, L ∈ B :: (Q ++ [E]) → L ≤ 61 := by
  intro L hL
  rcases List.mem_cons.mp hL with a | a
  · omega
  · rcases List.mem_append.mp a with a | a
    · have := hQ L a; omega
    · have : L = E := by simpa using a
      omega
def rm_ask (M : Nat) (h : Int32) (nd : Nat → Int32) (c : Nat) : Prop := ∃ j, j < M ∧ bt h j = true ∧ bt (nd j) c = true
section
variable {U M : Nat} {pl pt ys : Int32} {tx sr bf bh pf pc tc tk nd hd nx fl sz cs cp ro mx mt pu fi wk po my : Nat → Int32}
theorem rx_uncommit {post : Int32 → SX → Prop} {r c : Nat} {W : List Nat} {x : rm_Ch} (hh : bt (hd r) c = true) (hr : r < 3) (hM : M ≤ 16) (hc : c < M) (hX : rm_XR r W nx fl) (hn : (rm_FF W).Nodup) (hw : ∀ L, L ∈ W → L < 60) (hs : sz r = nI W.length) (hl : W.length ≤ 20) (he : rm_EC x bf bh pf pc tc tk c) (hb : rm_BC x) (hlt : ∀ j, j < M → bt (nd j) c = true → c < j)
    (h4 : (¬ rm_Std W (rm_cB x) (rm_cE x) (rm_cP x) ∨ rm_ask M (hd r) nd c) → post (-4) (nI U, nI M, pl, pt, tx, sr, bf, bh, pf, pc, tc, tk, nd, hd, nx, fl, sz, cs, cp, ro, mx, mt))
    (h5 : ∀ w1 w2, rm_lst 60 w1 = rm_cB x → rm_hdd 61 w2 = rm_cE x → W = w1 ++ (rm_cP x ++ w2) → ¬ rm_ask M (hd r) nd c → 20 < w1.length + (rm_cT x).length + w2.length → post (-5) (nI U, nI M, pl, pt, tx, sr, bf, bh, pf, pc, tc, tk, nd, hd, nx, fl, sz, cs, cp, ro, mx, mt))
    (h6 : ∀ w1 w2, rm_lst 60 w1 = rm_cB x → rm_hdd 61 w2 = rm_cE x → W = w1 ++ (rm_cP x ++ w2) → ¬ rm_ask M (hd r) nd c → w1.length + (rm_cT x).length + w2.length ≤ 20 → post (nI (w1.length + (rm_cT x).length + w2.length)) (nI U, nI M, pl, pt, tx, sr, bf, bh, pf, pc, tc, tk, nd, upd hd r (hd r &&& (((1 : Int32) <<< (nI c &&& 31)) ^^^ (-1))), rm_lnk r nx (rm_cB x) (rm_cT x) (rm_cE x), rm_st r 1 (rm_st r 0 fl (rm_cP x)) (rm_cT x), upd sz r (nI (w1.length + (rm_cT x).length + w2.length)), cs, cp, ro, mx, mt)) :
    wpX_uncommit post (nI U, nI M, pl, pt, tx, sr, bf, bh, pf, pc, tc, tk, nd, hd, nx, fl, sz, cs, cp, ro, mx, mt) (nI r) (nI c) := by
  have lp1 : ∀ (s : Int32), wX_uncommit_47 post (nI r) (nI c) s (nI U) (nI M) pl pt tx sr bf bh pf pc tc tk nd hd nx fl sz cs cp ro mx mt (0 + 1) 1 (nI M) → ∀ (d k : Nat), k + d = M → wX_uncommit_47 post (nI r) (nI c) s (nI U) (nI M) pl pt tx sr bf bh pf pc tc tk nd hd nx fl sz cs cp ro mx mt (d + 1) 1 (nI k) := by
    intro s hP d
    induction d with
    | zero =>
      intro k hk
      rw [show k = M from by omega]
      exact hP
    | succ d ih =>
      intro k hk
      have h7 := ih (k + 1) (by omega)
      rw [wX_uncommit_47]
      simp (disch := omega) only [forall_eq, true_and, rm_vin, nI_clamp, rm_62, rm_20, rm_21, rm_22, rm_p60, rm_p61, rm_p22, rm_p2, nI_1, nI_add, nI_pred, pk_m1, nI_leI]
      exact ⟨fun h => absurd h (by omega), fun _ => br_f rm_i10 h7⟩
  have lp0 : ∀ (s : Int32), (rm_ask M (hd r) nd c → wX_uncommit_47 post (nI r) (nI c) s (nI U) (nI M) pl pt tx sr bf bh pf pc tc tk nd hd nx fl sz cs cp ro mx mt (0 + 1) 1 (nI M)) → (¬ rm_ask M (hd r) nd c → wX_uncommit_47 post (nI r) (nI c) s (nI U) (nI M) pl pt tx sr bf bh pf pc tc tk nd hd nx fl sz cs cp ro mx mt (0 + 1) 0 (nI M)) → ∀ (d k : Nat), k + d = M → (∀ j, j < k → bt (hd r) j = true → bt (nd j) c = true → False) → wX_uncommit_47 post (nI r) (nI c) s (nI U) (nI M) pl pt tx sr bf bh pf pc tc tk nd hd nx fl sz cs cp ro mx mt (d + 1) 0 (nI k) := by
    intro s hP1 hP0 d
    induction d with
    | zero =>
      intro k hk hno
      rw [show k = M from by omega]
      refine hP0 (fun z => ?_)
      obtain ⟨j, z1, z2, z3⟩ := z
      exact hno j (by omega) z2 z3
    | succ d ih =>
      intro k hk hno
      rw [wX_uncommit_47]
      simp (disch := omega) only [forall_eq, true_and, rm_vin, nI_clamp, rm_62, rm_20, rm_21, rm_22, rm_p60, rm_p61, rm_p22, rm_p2, nI_1, nI_add, nI_pred, pk_m1, nI_leI]
      refine ⟨fun h => absurd h (by omega), fun _ => br_t (by trivial) (rx_holds hr (by omega) (fun hb1 => br_f rm_i10 ?_) (fun hb0 => br_t (by trivial) (ih (k + 1) (by omega) (fun j hj a b => ?_))))⟩
      · cases hb2 : bt (nd k) c with
        | false =>
          refine br_f (rm_bitF (by omega) hb2) (ih (k + 1) (by omega) (fun j hj a b => ?_))
          by_cases e : j = k
          · subst e; rw [hb2] at b; cases b
          · exact hno j (by omega) a b
        | true => exact br_t (rm_bitT (by omega) hb2) (lp1 s (hP1 ⟨k, by omega, hb1, hb2⟩) d (k + 1) (by omega))
      · by_cases e : j = k
        · subst e; rw [hb0] at a; cases a
        · exact hno j (by omega) a b
  have st : ∀ (s : Int32), (rm_ask M (hd r) nd c → wX_uncommit_47 post (nI r) (nI c) s (nI U) (nI M) pl pt tx sr bf bh pf pc tc tk nd hd nx fl sz cs cp ro mx mt (0 + 1) 1 (nI M)) → (¬ rm_ask M (hd r) nd c → wX_uncommit_47 post (nI r) (nI c) s (nI U) (nI M) pl pt tx sr bf bh pf pc tc tk nd hd nx fl sz cs cp ro mx mt (0 + 1) 0 (nI M)) → ∀ x5 : Int32, x5 = nI c + 1 → ∃ n47 : Nat, wX_uncommit_47 post (nI r) (nI c) s (nI U) (nI M) pl pt tx sr bf bh pf pc tc tk nd hd nx fl sz cs cp ro mx mt n47 0 x5 := by
    intro s hP1 hP0 x5 e5
    rw [e5, nI_1]
    refine ⟨_, lp0 s hP1 hP0 (M - (c + 1)) (c + 1) (by omega) (fun j hj a b => ?_)⟩
    have := hlt j (by omega) b
    omega
  obtain ⟨e1, e2, e3, e4, e5, e6⟩ := he
  unfold wpX_uncommit
  refine rx_room_t hr (br_f rm_i10 (rx_chg_t hM hc (br_f rm_i10 (rx_holds hr (by omega) (fun _ => br_f rm_i10 ?_) (fun h => by rw [hh] at h; cases h)))))
  refine rx_runAfterStands hr (by omega) hX hn hw ⟨e1, e2, e3, e4, e5, e6⟩ hb (fun hS => ?_) (fun hS => ?_)
  · refine st 1 (fun ha => ?_) (fun ha => ?_)
    · rw [wX_uncommit_47]
      exact br_t (nI_le (Nat.le_refl _) (by omega)) (br_f rm_i10 (br_f rm_i10 (h4 (Or.inr ha))))
    · obtain ⟨w1, w2, d1, d2, d3⟩ := hS
      have hlen : W.length = w1.length + rm_cN x + w2.length := by rw [d3, List.length_append, List.length_append, rm_lP]; omega
      have b6 := hb.2.2.2.2.2
      have b5 := hb.2.2.2.2.1
      have ez : sz r = nI (w1.length + rm_cN x + w2.length) := by rw [hs, hlen]
      have i1 : w1.length + rm_cN x + w2.length + (rm_cT x).length - rm_cN x = w1.length + (rm_cT x).length + w2.length := by omega
      rw [wX_uncommit_47]
      refine br_t (nI_le (Nat.le_refl _) (by omega)) (br_f rm_i10 (br_t (by trivial) ?_))
      simp (disch := omega) only [forall_eq, true_and, rm_vin, nI_clamp, rm_62, rm_20, rm_21, rm_22, rm_p60, rm_p61, rm_p22, rm_p2, nI_1, nI_add, nI_pred, pk_m1, ez, e4, e5, pk_sub, i1]
      by_cases hz : w1.length + (rm_cT x).length + w2.length ≤ 20
      · refine br_t (nI_le (b := 20) hz (by decide)) (rx_takeBack hr (by omega) ⟨e1, e2, e3, e4, e5, e6⟩ hb ?_)
        have h7 := h6 w1 w2 d1 d2 d3 ha hz
        simp (disch := omega) only [forall_eq, true_and, rm_vin, nI_clamp, rm_62, rm_20, rm_21, rm_22, rm_p60, rm_p61, rm_p22, rm_p2, nI_1, nI_add, nI_pred, pk_m1, ez, rm_szE, pk_us]
        exact h7
      · refine br_f (nI_ge (a := 20) (by omega) (by omega)) (h5 w1 w2 d1 d2 d3 ha (by omega))
  · have h7 := h4 (Or.inl hS)
    refine st 0 (fun ha => ?_) (fun ha => ?_)
    · rw [wX_uncommit_47]
      exact br_t (nI_le (Nat.le_refl _) (by omega)) (br_t (by trivial) h7)
    · rw [wX_uncommit_47]
      exact br_t (nI_le (Nat.le_refl _) (by omega)) (br_t (by trivial) h7)
theorem ry_uncommit {post : Int32 → SY → Prop} {r c : Nat} {W : List Nat} {x : rm_Ch} (hh : bt (hd r) c = true) (hr : r < 3) (hM : M ≤ 16) (hc : c < M) (hn : (rm_FF W).Nodup) (hw : ∀ L, L ∈ W → L < 60) (hs : sz r = nI W.length) (hl : W.length ≤ 20) (hf : ∀ k, k < W.length → fi (20 * r + k) = nI (rm_g W k)) (he : rm_EC x bf bh pf pc tc tk c) (hy : rm_EY x pu c) (hb : rm_BC x)
    (h4 : ∀ (ys : Int32) (wk : Nat → Int32), (¬ rm_Std W (rm_cB x) (rm_cE x) (rm_cP x) ∨ rm_ask M (hd r) nd c) → post (-4) (nI U, nI M, ys, tx, sr, bf, bh, tc, pc, tk, pu, nd, sz, fi, cs, cp, hd, wk, po, my))
    (h5 : ∀ (ys : Int32) (wk : Nat → Int32) (w1 w2 : List Nat), rm_lst 60 w1 = rm_cB x → rm_hdd 61 w2 = rm_cE x → W = w1 ++ (rm_cP x ++ w2) → ¬ rm_ask M (hd r) nd c → 20 < w1.length + (rm_cT x).length + w2.length → post (-5) (nI U, nI M, ys, tx, sr, bf, bh, tc, pc, tk, pu, nd, sz, fi, cs, cp, hd, wk, po, my))
    (h6 : ∀ (ys : Int32) (wk : Nat → Int32) (w1 w2 : List Nat), rm_lst 60 w1 = rm_cB x → rm_hdd 61 w2 = rm_cE x → W = w1 ++ (rm_cP x ++ w2) → ¬ rm_ask M (hd r) nd c → w1.length + (rm_cT x).length + w2.length ≤ 20 → post (nI (w1.length + (rm_cT x).length + w2.length)) (nI U, nI M, ys, tx, sr, bf, bh, tc, pc, tk, pu, nd, upd sz r (nI (w1.length + (rm_cT x).length + w2.length)), rm_wf fi (20 * r) (w1.length + (rm_cT x).length + w2.length) (fun k => nI (rm_g (w1 ++ (rm_cT x ++ w2)) k)), cs, cp, upd hd r (hd r &&& (((1 : Int32) <<< (nI c &&& 31)) ^^^ (-1))), wk, po, my)) :
    wpY_uncommit post (nI U, nI M, ys, tx, sr, bf, bh, tc, pc, tk, pu, nd, sz, fi, cs, cp, hd, wk, po, my) (nI r) (nI c) := by
  unfold wpY_uncommit
  refine ry_room_t hr (br_f rm_i10 (ry_chg_t hM hc (br_f rm_i10 (And.intro (vp_in_nI hr (by decide)) ?_))))
  rw [nI_clamp (by omega)]
  refine ry_in (by omega) (fun _ => br_f rm_i10 ?_) (fun h => by rw [hh] at h; cases h)
  refine ry_open hr hs hf hl ?_
  have hwk : ∀ k, k < W.length → rm_wf wk 0 W.length (fun k => nI (rm_g W k)) k = nI (rm_g W k) := fun k hk => rm_roI hk
  generalize rm_wf wk 0 W.length (fun k => nI (rm_g W k)) = wn at hwk ⊢
  have lp0 : ∀ (s : Int32), wY_uncommit_64 post (nI r) (nI c) s (nI U) (nI M) (nI W.length) tx sr bf bh tc pc tk pu nd sz fi cs cp hd wn po my (0 + 1) 0 (nI M) → ∀ (d k : Nat), k + d = M → wY_uncommit_64 post (nI r) (nI c) s (nI U) (nI M) (nI W.length) tx sr bf bh tc pc tk pu nd sz fi cs cp hd wn po my (d + 1) 0 (nI k) := by
    intro s hP d
    induction d with
    | zero =>
      intro k hk
      rw [show k = M from by omega]
      exact hP
    | succ d ih =>
      intro k hk
      have h7 := ih (k + 1) (by omega)
      rw [wY_uncommit_64]
      simp (disch := omega) only [forall_eq, true_and, rm_vin, nI_clamp, rm_62, rm_20, rm_21, rm_22, rm_p60, rm_p61, rm_p22, rm_p2, nI_1, nI_add, nI_pred, pk_m1, nI_leI]
      exact ⟨fun h => absurd h (by omega), fun _ => br_t (by trivial) h7⟩
  have lp1 : ∀ (s : Int32), (rm_ask M (hd r) nd c → wY_uncommit_64 post (nI r) (nI c) s (nI U) (nI M) (nI W.length) tx sr bf bh tc pc tk pu nd sz fi cs cp hd wn po my (0 + 1) 0 (nI M)) → (¬ rm_ask M (hd r) nd c → wY_uncommit_64 post (nI r) (nI c) s (nI U) (nI M) (nI W.length) tx sr bf bh tc pc tk pu nd sz fi cs cp hd wn po my (0 + 1) 1 (nI M)) → ∀ (d k : Nat), k + d = M → (∀ j, j < k → bt (hd r) j = true → bt (nd j) c = true → False) → wY_uncommit_64 post (nI r) (nI c) s (nI U) (nI M) (nI W.length) tx sr bf bh tc pc tk pu nd sz fi cs cp hd wn po my (d + 1) 1 (nI k) := by
    intro s hP1 hP0 d
    induction d with
    | zero =>
      intro k hk hno
      rw [show k = M from by omega]
      refine hP0 (fun z => ?_)
      obtain ⟨j, z1, z2, z3⟩ := z
      exact hno j (by omega) z2 z3
    | succ d ih =>
      intro k hk hno
      rw [wY_uncommit_64]
      simp (disch := omega) only [forall_eq, true_and, rm_vin, nI_clamp, rm_62, rm_20, rm_21, rm_22, rm_p60, rm_p61, rm_p22, rm_p2, nI_1, nI_add, nI_pred, pk_m1, nI_leI]
      refine ⟨fun h => absurd h (by omega), fun _ => br_f rm_i10 (ry_in (by omega) (fun hb1 => br_f rm_i10 (ry_in (by omega) (fun hb2 => ?_) (fun hb2 => ?_))) (fun hb0 => br_t (by trivial) (ih (k + 1) (by omega) (fun j hj a b => ?_))))⟩
      · exact br_f rm_i10 (lp0 s (hP1 ⟨k, by omega, hb1, hb2⟩) d (k + 1) (by omega))
      · refine br_t (by trivial) (ih (k + 1) (by omega) (fun j hj a b => ?_))
        by_cases e : j = k
        · subst e; rw [hb2] at b; cases b
        · exact hno j (by omega) a b
      · by_cases e : j = k
        · subst e; rw [hb0] at a; cases a
        · exact hno j (by omega) a b
  have e0 : ∀ s : Int32, post (-4) (nI U, nI M, nI W.length, tx, sr, bf, bh, tc, pc, tk, pu, nd, sz, fi, cs, cp, hd, wn, po, my) → wY_uncommit_64 post (nI r) (nI c) s (nI U) (nI M) (nI W.length) tx sr bf bh tc pc tk pu nd sz fi cs cp hd wn po my (0 + 1) 0 (nI M) := by
    intro s h7
    rw [wY_uncommit_64]
    exact br_t (nI_le (Nat.le_refl _) (by omega)) (br_t (by trivial) h7)
  have hP20 : (rm_cP x).length ≤ 20 := by rw [rm_lP]; exact hb.2.2.2.2.1
  refine ry_placeOf (Q := rm_cP x) (by omega) hl hw hn hwk hP20 (rm_runle hb.1 hb.2.1 (rm_PltB hb)) (fun h => ry_len1 (by omega) he h) (fun hk h => ry_mem1 (by omega) he hy hb hk h) (fun w1 w2 d1 d2 d3 => ?_) (fun hS => ?_)
  · have hlen : W.length = w1.length + rm_cN x + w2.length := by rw [d3, List.length_append, List.length_append, rm_lP]; omega
    refine br_f (nI_pos (by omega)) ⟨_, lp1 _ (fun ha => e0 _ (h4 _ _ (Or.inr ha))) (fun ha => ?_) M 0 (by omega) (fun j hj => absurd hj (by omega))⟩
    have b6 := hb.2.2.2.2.2
    have i1 : w1.length + rm_cN x + w2.length - rm_cN x + (rm_cT x).length = w1.length + (rm_cT x).length + w2.length := by omega
    rw [wY_uncommit_64]
    refine br_t (nI_le (Nat.le_refl _) (by omega)) (br_f rm_i10 ?_)
    rw [hlen]
    simp (disch := omega) only [forall_eq, true_and, rm_vin, nI_clamp, rm_62, rm_20, rm_21, rm_22, rm_p60, rm_p61, rm_p22, rm_p2, nI_1, nI_add, nI_pred, pk_m1, he.2.2.2.1, he.2.2.2.2.1, pk_sub, i1]
    by_cases hz : w1.length + (rm_cT x).length + w2.length ≤ 20
    · refine br_t (nI_le (b := 20) hz (by decide)) ?_
      refine ry_replace (b := 1) (b' := 0) (B := rm_cB x) (E := rm_cE x) (w1 := w1) (Q := rm_cP x) (Q' := rm_cT x) (w2 := w2) (o := rm_cN x) (Or.inr ⟨rfl, rfl⟩) (by omega) rfl (rm_lP x) rfl rfl (by omega) hz ?_ (fun h => ry_len1 (by omega) he (by rw [rm_lP]; exact h)) (fun h => ry_len0 (by omega) he h) (fun hk h => ry_mem0 (by omega) he hb hk h) (fun wk2 hwk2 => ?_)
      · intro k hk
        rw [hwk k (by omega), ← d3]
      · have el : (w1 ++ (rm_cT x ++ w2)).length = w1.length + (rm_cT x).length + w2.length := by rw [List.length_append, List.length_append]; omega
        have h8 := h6 (nI (w1.length + (rm_cT x).length + w2.length)) wk2 w1 w2 d1 d2 d3 ha hz
        rw [← el] at h8 hwk2 ⊢
        refine ry_keep (W := w1 ++ (rm_cT x ++ w2)) hr hwk2 (by omega) ?_
        simp (disch := omega) only [forall_eq, true_and, rm_vin, nI_clamp, rm_62, rm_20, rm_21, rm_22, rm_p60, rm_p61, rm_p22, rm_p2, nI_1, nI_add, nI_pred, pk_m1]
        exact h8
    · have h8 := h5 (nI (w1.length + rm_cN x + w2.length)) wn w1 w2 d1 d2 d3 ha (by omega)
      exact br_f (nI_ge (a := 20) (by omega) (by omega)) h8
  · exact br_t (by decide) ⟨_, lp0 _ (e0 _ (h4 _ _ (Or.inl hS))) M 0 (by omega)⟩
end
end
section
theorem i_vc_uncommit {k : Nat} {u : SX} {v : SY} (I : i_Rel k u v) (hk : k + 4 ≤ 2048) (v1 : Int32) (v2 : Int32) : wpX_uncommit (fun r u' => wpY_uncommit (fun r' v' => r' = r ∧ i_Rel (k + 4) u' v') v v1 v2) u v1 v2 := by
  refine rm_el (P := fun u v => wpX_uncommit (fun r u' => wpY_uncommit (fun r' v' => r' = r ∧ i_Rel (k + 4) u' v') v v1 v2) u v1 v2) ?_ I
  intro U M pl pt ys tx sr bf bh pf pc tc tk nd hd nx fl sz cs cp ro mx mt pu fi wk po my hR
  have hno : v1 < 0 ∨ nI 3 ≤ v1 ∨ ∃ j : Nat, j < 3 ∧ v1 = nI j := pk_ix v1 (by decide)
  by_cases hx : v1 < 0 ∨ nI 3 ≤ v1
  · unfold wpX_uncommit wpY_uncommit
    exact rx_room_f hx (br_t (by trivial) (ry_room_f hx (br_t (by trivial) ⟨rfl, rm_i hR⟩)))
  · obtain ⟨r, hr, rfl⟩ : ∃ j : Nat, j < 3 ∧ v1 = nI j := by
      rcases hno with a | a | a
      · exact absurd (Or.inl a) hx
      · exact absurd (Or.inr a) hx
      · exact a
    have hR2 := hR
    obtain ⟨CH, F, h1, h2, h3, h4, h5⟩ := hR2
    obtain ⟨a1, a2, a3, a4, a5, a6⟩ := h5 r hr
    have hw := rm_W60 h3 h1 a1
    have hff := rm_WFF h3 h1 a1
    have hno2 : v2 < 0 ∨ nI M ≤ v2 ∨ ∃ j : Nat, j < M ∧ v2 = nI j := pk_ix v2 (by omega)
    by_cases hx2 : v2 < 0 ∨ nI M ≤ v2
    · unfold wpX_uncommit wpY_uncommit
      exact rx_room_t hr (br_f rm_i10 (rx_chg_f hx2 (br_t (by trivial) (ry_room_t hr (br_f rm_i10 (ry_chg_f hx2 (br_t (by trivial) ⟨rfl, rm_i hR⟩)))))))
    · obtain ⟨c, hc, rfl⟩ : ∃ j : Nat, j < M ∧ v2 = nI j := by
        rcases hno2 with a | a | a
        · exact absurd (Or.inl a) hx2
        · exact absurd (Or.inr a) hx2
        · exact a
      obtain ⟨he, hy⟩ := h4 c hc
      have hb := rm_BC_of h3 h1 hc
      cases hh : bt (hd r) c with
      | false =>
        unfold wpX_uncommit wpY_uncommit
        refine rx_room_t hr (br_f rm_i10 (rx_chg_t h2 hc (br_f rm_i10 (rx_holds hr (by omega) (fun h => by rw [hh] at h; cases h) (fun _ => br_t (by trivial) ?_)))))
        refine ry_room_t hr (br_f rm_i10 (ry_chg_t h2 hc (br_f rm_i10 (And.intro (vp_in_nI hr (by decide)) ?_))))
        rw [nI_clamp (by omega)]
        exact ry_in (by omega) (fun h => by rw [hh] at h; cases h) (fun _ => br_t (by trivial) ⟨rfl, rm_i hR⟩)
      | true =>
        have hlt : ∀ j, j < M → bt (nd j) c = true → c < j := fun j hj hb => (h3 j hj).2.2.2.2.2.2.2.2.1 c hb
        refine rx_uncommit hh hr h2 hc a4 hff hw a3 a2 he hb hlt (fun hz => ?_) (fun w1 w2 d1 d2 d3 d4 d5 => ?_) (fun w1 w2 d1 d2 d3 d4 d5 => ?_)
        · refine ry_uncommit hh hr h2 hc hff hw a3 a2 a5 he hy hb (fun ys wk _ => ⟨rfl, rm_i hR⟩) (fun ys wk v1 v2 f1 f2 f3 f4 f5 => ?_) (fun ys wk v1 v2 f1 f2 f3 f4 f5 => ?_)
          · rcases hz with z | z
            · exact absurd ⟨v1, v2, f1, f2, f3⟩ z
            · exact absurd z f4
          · rcases hz with z | z
            · exact absurd ⟨v1, v2, f1, f2, f3⟩ z
            · exact absurd z f4
        · refine ry_uncommit hh hr h2 hc hff hw a3 a2 a5 he hy hb (fun ys wk hz => ?_) (fun ys wk v1 v2 f1 f2 f3 f4 f5 => ⟨rfl, rm_i hR⟩) (fun ys wk v1 v2 f1 f2 f3 f4 f5 => ?_)
          · rcases hz with z | z
            · exact absurd ⟨w1, w2, d1, d2, d3⟩ z
            · exact absurd z d4
          · obtain ⟨q1, q2⟩ := rm_uniq hff d3 f3 (d1.trans f1.symm)
            have q3 := List.append_cancel_left q2
            subst q1 q3
            omega
        · refine ry_uncommit hh hr h2 hc hff hw a3 a2 a5 he hy hb (fun ys wk hz => ?_) (fun ys wk v1 v2 f1 f2 f3 f4 f5 => ?_) (fun ys wk v1 v2 f1 f2 f3 f4 f5 => ?_)
          · rcases hz with z | z
            · exact absurd ⟨w1, w2, d1, d2, d3⟩ z
            · exact absurd z d4
          · obtain ⟨q1, q2⟩ := rm_uniq hff d3 f3 (d1.trans f1.symm)
            have q3 := List.append_cancel_left q2
            subst q1 q3
            omega
          · obtain ⟨q1, q2⟩ := rm_uniq hff d3 f3 (d1.trans f1.symm)
            have q3 := List.append_cancel_left q2
            subst q1 q3
            refine ⟨rfl, rm_i ?_⟩
            have b3 := hb.2.2.1
            have hu := rm_unapply (h := hd r) h3 h1 h2 hc (by rw [← d3]; exact a1) hh (fun d hd1 => by
              cases hz : bt (nd d) c with
              | false => rfl
              | true => exact absurd ⟨d, a1.2.1 d hd1, hd1, hz⟩ d4) d1 d2
            have hff2 := rm_WFF h3 h1 hu
            have el : (w1 ++ (rm_cT (CH c) ++ w2)).length = w1.length + (rm_cT (CH c)).length + w2.length := by rw [List.length_append, List.length_append]; omega
            refine rm_R_set (r := r) (W := w1 ++ (rm_cT (CH c) ++ w2)) h1 h2 h3 h4 h5 ⟨?_, by omega, ?_, ?_, ?_, a6⟩ ?_
            · rw [pk_us]; exact hu
            · rw [pk_us, el]
            · refine rm_relink (by rw [← d3]; exact a4) (by rw [← d3]; exact hff) hff2 d1 d2
            · intro k hk
              exact rm_wf_i (by omega)
            · intro q hq hne
              refine ⟨pk_un hne, pk_un hne, rfl, fun L hL => ⟨rm_lnk_q hne hL hb.1 b3, ?_⟩, fun k hk => rm_wf_o (by omega)⟩
              rw [rm_st_q hne hL b3, rm_st_q hne hL (rm_PltB hb)]
end
section
/-! changes taken back in turn: what stood before stands again -/
def rm_Ot (r : Nat) (nx fl nx1 fl1 : Nat → Int32) : Prop := ∀ q, q < 3 → q ≠ r → ∀ L, L < 62 → nx1 (62 * q + L) = nx (62 * q + L) ∧ fl1 (62 * q + L) = fl (62 * q + L)
theorem rm_Ot_step {r B E : Nat} {Q Q' : List Nat} {nx fl nx1 fl1 : Nat → Int32} (h : rm_Ot r nx fl nx1 fl1) (hB : B ≤ 60) (hQ : ∀ y, y ∈ Q → y < 60) (hQ' : ∀ y, y ∈ Q' → y < 60) : rm_Ot r nx fl (rm_lnk r nx1 B Q' E) (rm_st r 1 (rm_st r 0 fl1 Q) Q') := by
  intro q hq hne L hL
  rw [rm_lnk_q hne hL hB hQ', rm_st_q hne hL hQ', rm_st_q hne hL hQ]
  exact h q hq hne L hL
def rm_BK (r : Nat) (S h0 : Int32) (W0 : List Nat) (U M : Nat) (pl pt : Int32) (tx sr bf bh pf pc tc tk nd hd nx fl sz cs cp ro mx mt : Nat → Int32) (c : Nat) (W : List Nat) (h : Int32) : Prop :=
  ∀ (post : SX → Prop) (S' : Int32) (nx1 fl1 : Nat → Int32), (∀ i, i < c → bt S' i = bt S i) → rm_XR r W nx1 fl1 → rm_Ot r nx fl nx1 fl1 → (∀ nx2 fl2 : Nat → Int32, rm_XR r W0 nx2 fl2 → rm_Ot r nx fl nx2 fl2 → post (nI U, nI M, pl, pt, tx, sr, bf, bh, pf, pc, tc, tk, nd, upd hd r h0, nx2, fl2, upd sz r (nI W0.length), cs, cp, ro, mx, mt)) → wX_takeAllBack_7 post (nI r) S' (c + 1) (nI c - 1) (nI U) (nI M) pl pt tx sr bf bh pf pc tc tk nd (upd hd r h) nx1 fl1 (upd sz r (nI W.length)) cs cp ro mx mt
section
variable {U M : Nat} {pl pt ys : Int32} {tx sr bf bh pf pc tc tk nd hd nx fl sz cs cp ro mx mt pu fi wk po my : Nat → Int32}
variable {r : Nat} {S h0 h : Int32} {W0 W : List Nat}
theorem rm_bk0 : rm_BK r S h0 W0 U M pl pt tx sr bf bh pf pc tc tk nd hd nx fl sz cs cp ro mx mt 0 W0 h0 := by
  intro post S' nx1 fl1 _ hX hO hP
  rw [wX_takeAllBack_7]
  exact br_t (by decide) (hP nx1 fl1 hX hO)
theorem rm_bk_skip {c : Nat} (hc : c < 16) (hb : bt S c = false) (hK : rm_BK r S h0 W0 U M pl pt tx sr bf bh pf pc tc tk nd hd nx fl sz cs cp ro mx mt c W h) : rm_BK r S h0 W0 U M pl pt tx sr bf bh pf pc tc tk nd hd nx fl sz cs cp ro mx mt (c + 1) W h := by
  intro post S' nx1 fl1 hS hX hO hP
  have h5 := hK post S' nx1 fl1 (fun i hi => hS i (by omega)) hX hO hP
  have hb' : bt S' c = false := by rw [hS c (by omega), hb]
  rw [nI_pred, wX_takeAllBack_7]
  refine br_f (nI_pos (by omega)) (br_f (rm_bitF (by omega) hb') ?_)
  simp only [forall_eq, rm_j1]
  exact h5
theorem rm_bk_step {c : Nat} {x : rm_Ch} {w1 w2 : List Nat} (hr : r < 3) (hc : c < 16) (hb : bt S c = true) (he : rm_EC x bf bh pf pc tc tk c) (hx : rm_BC x) (d1 : rm_lst 60 w1 = rm_cB x) (d2 : rm_hdd 61 w2 = rm_cE x) (n1 : (rm_FF (w1 ++ (rm_cT x ++ w2))).Nodup) (n2 : (rm_FF (w1 ++ (rm_cP x ++ w2))).Nodup) (hh : bt h c = false) (hK : rm_BK r S h0 W0 U M pl pt tx sr bf bh pf pc tc tk nd hd nx fl sz cs cp ro mx mt c (w1 ++ (rm_cT x ++ w2)) h) : rm_BK r S h0 W0 U M pl pt tx sr bf bh pf pc tc tk nd hd nx fl sz cs cp ro mx mt (c + 1) (w1 ++ (rm_cP x ++ w2)) (h ||| ((1 : Int32) <<< (nI c &&& 31))) := by
  intro post S' nx1 fl1 hS hX hO hP
  have h5 := hK post S' (rm_lnk r nx1 (rm_cB x) (rm_cT x) (rm_cE x)) (rm_st r 1 (rm_st r 0 fl1 (rm_cP x)) (rm_cT x)) (fun i hi => hS i (by omega)) (rm_relink hX n2 n1 d1 d2) (rm_Ot_step hO hx.1 (rm_PltB hx) hx.2.2.1) hP
  have hb' : bt S' c = true := by rw [hS c (by omega), hb]
  have l1 : (w1 ++ (rm_cP x ++ w2)).length = w1.length + rm_cN x + w2.length := by rw [List.length_append, List.length_append, rm_lP]; omega
  have l2 : (w1 ++ (rm_cT x ++ w2)).length = w1.length + (rm_cT x).length + w2.length := by rw [List.length_append, List.length_append]; omega
  rw [l2] at h5
  rw [nI_pred, wX_takeAllBack_7, l1]
  refine br_f (nI_pos (by omega)) (br_t (rm_bitT (by omega) hb') (rx_takeBack hr hc he hx ?_))
  simp only [forall_eq, rm_j1, pk_us, rm_uu, rm_szE, rm_setclr (show c < 32 by omega) hh]
  exact h5
theorem rm_bk_fall {c : Nat} {post : SX → Prop} {S' : Int32} {nx1 fl1 : Nat → Int32} (hK : rm_BK r S h0 W0 U M pl pt tx sr bf bh pf pc tc tk nd hd nx fl sz cs cp ro mx mt c W h) (hS : ∀ i, i < c → bt S' i = bt S i) (hX : rm_XR r W nx1 fl1) (hO : rm_Ot r nx fl nx1 fl1) (hP : ∀ nx2 fl2 : Nat → Int32, rm_XR r W0 nx2 fl2 → rm_Ot r nx fl nx2 fl2 → post (nI U, nI M, pl, pt, tx, sr, bf, bh, pf, pc, tc, tk, nd, upd hd r h0, nx2, fl2, upd sz r (nI W0.length), cs, cp, ro, mx, mt)) : ∀ d, c + d ≤ 16 → (∀ i, c ≤ i → i < c + d → bt S' i = false) → wX_takeAllBack_7 post (nI r) S' (c + d + 1) (nI (c + d) - 1) (nI U) (nI M) pl pt tx sr bf bh pf pc tc tk nd (upd hd r h) nx1 fl1 (upd sz r (nI W.length)) cs cp ro mx mt := by
  intro d
  induction d with
  | zero =>
    intro _ _
    exact hK post S' nx1 fl1 hS hX hO hP
  | succ d ih =>
    intro hd2 hz
    have h5 := ih (by omega) (fun i h1 h2 => hz i h1 (by omega))
    rw [show c + (d + 1) = (c + d) + 1 from by omega, nI_pred, wX_takeAllBack_7]
    refine br_f (nI_pos (by omega)) (br_f (rm_bitF (by omega) (hz (c + d) (by omega) (by omega))) ?_)
    simp only [forall_eq, rm_j1]
    exact h5
/-- all taken back, from the last change's number on -/
theorem rx_takeAllBack {c : Nat} {post : SX → Prop} {S' : Int32} {nx1 fl1 : Nat → Int32} (hc : c ≤ M) (hM : M ≤ 16) (hK : rm_BK r S h0 W0 U M pl pt tx sr bf bh pf pc tc tk nd hd nx fl sz cs cp ro mx mt c W h) (hS : ∀ i, i < c → bt S' i = bt S i) (hS2 : ∀ i, c ≤ i → bt S' i = false) (hX : rm_XR r W nx1 fl1) (hO : rm_Ot r nx fl nx1 fl1) (hP : ∀ nx2 fl2 : Nat → Int32, rm_XR r W0 nx2 fl2 → rm_Ot r nx fl nx2 fl2 → post (nI U, nI M, pl, pt, tx, sr, bf, bh, pf, pc, tc, tk, nd, upd hd r h0, nx2, fl2, upd sz r (nI W0.length), cs, cp, ro, mx, mt)) : wpX_takeAllBack post (nI U, nI M, pl, pt, tx, sr, bf, bh, pf, pc, tc, tk, nd, upd hd r h, nx1, fl1, upd sz r (nI W.length), cs, cp, ro, mx, mt) (nI r) S' := by
  have h5 := rm_bk_fall hK hS hX hO hP (M - c) (by omega) (fun i h1 _ => hS2 i h1)
  rw [show c + (M - c) = M from by omega] at h5
  unfold wpX_takeAllBack
  exact nm_e ⟨_, h5⟩
/-! whether a copy is its file -/
def rm_cln (tx cp : Nat → Int32) (r : Nat) (W : List Nat) (t : Nat) : Prop := t = W.length ∧ ∀ k, k < W.length → rm_e tx cp r W k k = true
theorem rx_copyIsFile {post : Int32 → SX → Prop} {t : Nat} (hr : r < 3) (hX : rm_XR r W nx fl) (hs : sz r = nI W.length) (hl : W.length ≤ 20) (hw : ∀ L, L ∈ W → L < 60) (ht : cs r = nI t) (ht2 : t ≤ 20) (h1 : rm_cln tx cp r W t → ∀ ro : Nat → Int32, post 1 (nI U, nI M, pl, pt, tx, sr, bf, bh, pf, pc, tc, tk, nd, hd, nx, fl, sz, cs, cp, ro, mx, mt)) (h0 : ¬ rm_cln tx cp r W t → ∀ ro : Nat → Int32, post 0 (nI U, nI M, pl, pt, tx, sr, bf, bh, pf, pc, tc, tk, nd, hd, nx, fl, sz, cs, cp, ro, mx, mt)) : wpX_copyIsFile post (nI U, nI M, pl, pt, tx, sr, bf, bh, pf, pc, tc, tk, nd, hd, nx, fl, sz, cs, cp, ro, mx, mt) (nI r) := by
  simp (disch := omega) only [wpX_copyIsFile, nI_clamp, rm_vin, true_and, hs, ht, nI_eq]
  refine ⟨fun he => rx_layRow hr hX hs hl hw ?_, fun he => h0 (fun z => he z.1) ro⟩
  have hro : ∀ k, k < W.length → rm_wf ro 0 W.length (fun k => nI (rm_g W k)) k = nI (rm_g W k) := fun k hk => rm_roI hk
  generalize rm_wf ro 0 W.length (fun k => nI (rm_g W k)) = rn at hro ⊢
  have key : ∀ (d k : Nat), k + d = W.length → (∀ j, j < k → rm_e tx cp r W j j = true) → wX_copyIsFile_24 post (nI r) (nI U) (nI M) pl pt tx sr bf bh pf pc tc tk nd hd nx fl sz cs cp rn mx mt (d + 1) (nI k) := by
    intro d
    induction d with
    | zero =>
      intro k hk hp
      rw [wX_copyIsFile_24]
      simp (disch := omega) only [forall_eq, true_and, rm_vin, nI_clamp, rm_62, rm_20, rm_21, rm_22, rm_p60, rm_p61, rm_p22, rm_p2, nI_1, nI_add, nI_pred, pk_m1, hs, nI_leI]
      exact ⟨fun _ => h1 ⟨he, fun j hj => hp j (by omega)⟩ rn, fun h => absurd h (by omega)⟩
    | succ d ih =>
      intro k hk hp
      rw [wX_copyIsFile_24]
      simp (disch := omega) only [forall_eq, true_and, rm_vin, nI_clamp, rm_62, rm_20, rm_21, rm_22, rm_p60, rm_p61, rm_p22, rm_p2, nI_1, nI_add, nI_pred, pk_m1, hs, nI_leI]
      refine ⟨fun h => absurd h (by omega), fun _ => rx_agree hr (by omega) hl (by omega) hro hw (fun hz => br_f rm_i10 (ih (k + 1) (by omega) (fun j hj => ?_))) (fun hz => br_t (by trivial) (h0 (fun z => ?_) rn))⟩
      · by_cases e : j = k
        · subst e; exact hz
        · exact hp j (by omega)
      · rw [z.2 k (by omega)] at hz
        cases hz
  exact ⟨_, key W.length 0 (by omega) (fun j hj => absurd hj (by omega))⟩
theorem ry_isClean {post : Int32 → Prop} {t : Nat} (hr : r < 3) (hs : sz r = nI W.length) (hl : W.length ≤ 20) (hf : ∀ k, k < W.length → fi (20 * r + k) = nI (rm_g W k)) (hw : ∀ L, L ∈ W → L < 60) (ht : cs r = nI t) (ht2 : t ≤ 20) (h1 : rm_cln tx cp r W t → post 1) (h0 : ¬ rm_cln tx cp r W t → post 0) : wpY_isClean post (nI U, nI M, ys, tx, sr, bf, bh, tc, pc, tk, pu, nd, sz, fi, cs, cp, hd, wk, po, my) (nI r) := by
  have z0 : ∀ (n k : Nat), k ≤ 20 → ¬ rm_cln tx cp r W t → wY_isClean_23 post (nI r) (nI U) (nI M) ys tx sr bf bh tc pc tk pu nd sz fi cs cp hd wk po my (n + 1) 0 (nI k) := by
    intro n k hk hne
    rw [wY_isClean_23]
    simp (disch := omega) only [forall_eq, true_and, rm_vin, nI_clamp, rm_62, rm_20, rm_21, rm_22, rm_p60, rm_p61, rm_p22, rm_p2, nI_1, nI_add, nI_pred, pk_m1, hs]
    exact br_c (fun _ => ⟨rfl, h0 hne⟩) (fun _ => br_t (by trivial) ⟨rfl, h0 hne⟩)
  have key : W.length = t → ∀ (d k : Nat), k + d = W.length → (∀ j, j < k → rm_e tx cp r W j j = true) → wY_isClean_23 post (nI r) (nI U) (nI M) ys tx sr bf bh tc pc tk pu nd sz fi cs cp hd wk po my (d + 2) 1 (nI k) := by
    intro he d
    induction d with
    | zero =>
      intro k hk hp
      rw [wY_isClean_23]
      simp (disch := omega) only [forall_eq, true_and, rm_vin, nI_clamp, rm_62, rm_20, rm_21, rm_22, rm_p60, rm_p61, rm_p22, rm_p2, nI_1, nI_add, nI_pred, pk_m1, hs, nI_leI]
      exact ⟨fun _ => ⟨rfl, h1 ⟨he.symm, fun j hj => hp j (by omega)⟩⟩, fun h => absurd h (by omega)⟩
    | succ d ih =>
      intro k hk hp
      rw [show d + 1 + 2 = (d + 2) + 1 from rfl, wY_isClean_23]
      simp (disch := omega) only [forall_eq, true_and, rm_vin, nI_clamp, rm_62, rm_20, rm_21, rm_22, rm_p60, rm_p61, rm_p22, rm_p2, nI_1, nI_add, nI_pred, pk_m1, hs, nI_leI]
      refine ⟨fun h => absurd h (by omega), fun _ => br_f rm_i10 (ry_fits hr (by omega) hl (by omega) hf hw (fun hz => ih (k + 1) (by omega) (fun j hj => ?_)) (fun hz => z0 (d + 1) (k + 1) (by omega) (fun z => ?_)))⟩
      · by_cases e : j = k
        · subst e; exact hz
        · exact hp j (by omega)
      · rw [z.2 k (by omega)] at hz
        cases hz
  simp (disch := omega) only [wpY_isClean, nI_clamp, rm_vin, true_and, hs, ht, nI_eq]
  refine ⟨fun he => ⟨_, key he W.length 0 (by omega) (fun j hj => absurd hj (by omega))⟩, fun he => ⟨_, z0 0 0 (by omega) (fun z => he z.1.symm)⟩⟩
end
end
section
/-! the changes of a set made in turn, both sides at once -/
def rm_cnt (S : Int32) : Nat → Nat
  | 0 => 0
  | c + 1 => rm_cnt S c + (if bt S c = true then 1 else 0)
section
variable {U M : Nat} {pl pt ys : Int32} {tx sr bf bh pf pc tc tk nd hd nx fl sz cs cp ro mx mt pu fi wk po my : Nat → Int32}
variable {r : Nat} {S h0 : Int32} {W0 : List Nat} {CH : Nat → rm_Ch}
theorem ry_placeOfN {post : Int32 → Prop} {c B E n : Nat} {b : Int32} {W Q : List Nat} (hL : W.length = n) (hc : c < 16) (hl : n ≤ 20) (hw : ∀ L, L ∈ W → L < 60) (hn : (rm_FF W).Nodup) (hf : ∀ k, k < n → wk k = nI (rm_g W k)) (hq : Q.length ≤ 20) (hR : ∀ L, L ∈ B :: (Q ++ [E]) → L ≤ 61)
    (hlen : ∀ {post : Int32 → Prop}, post (nI (Q.length + 2)) → wpY_length post (nI U, nI M, nI n, tx, sr, bf, bh, tc, pc, tk, pu, nd, sz, fi, cs, cp, hd, wk, po, my) (nI c) b) (hmem : ∀ {post : Int32 → Prop} {k : Nat}, k ≤ Q.length + 1 → post (nI (rm_g (B :: (Q ++ [E])) k)) → wpY_member post (nI U, nI M, nI n, tx, sr, bf, bh, tc, pc, tk, pu, nd, sz, fi, cs, cp, hd, wk, po, my) (nI c) b (nI k))
    (h1 : ∀ w1 w2, rm_lst 60 w1 = B → rm_hdd 61 w2 = E → W = w1 ++ (Q ++ w2) → post (nI w1.length)) (h0 : ¬ rm_Std W B E Q → post (-1)) : wpY_placeOf post (nI U, nI M, nI n, tx, sr, bf, bh, tc, pc, tk, pu, nd, sz, fi, cs, cp, hd, wk, po, my) (nI c) b := by
  subst hL
  exact ry_placeOf hc hl hw hn hf hq hR hlen hmem h1 h0
theorem rm_all (hr : r < 3) (hU : U ≤ 60) (hM : M ≤ 16) (hC : rm_CI U M CH nd) (hE : ∀ c, c < M → rm_EC (CH c) bf bh pf pc tc tk c ∧ rm_EY (CH c) pu c) (hS0 : ∀ i, bt S i = true → i < M ∧ bt h0 i = false) (hSc : ∀ i d, bt S i = true → bt (nd i) d = true → bt h0 d = true ∨ bt S d = true) :
    ∀ (k c : Nat) (W : List Nat) (h : Int32), c + k = M → rm_RI M CH nd W h → W.length ≤ 20 → (∀ i, bt h i = true ↔ bt h0 i = true ∨ (bt S i = true ∧ i < c)) → rm_BK r S h0 W0 U M pl pt tx sr bf bh pf pc tc tk nd hd nx fl sz cs cp ro mx mt c W h →
    (∃ (W' : List Nat) (h' : Int32), rm_RI M CH nd W' h' ∧ W'.length ≤ 20 ∧ (∀ i, bt h' i = true ↔ bt h0 i = true ∨ bt S i = true) ∧ rm_BK r S h0 W0 U M pl pt tx sr bf bh pf pc tc tk nd hd nx fl sz cs cp ro mx mt M W' h' ∧
      (∀ nx1 fl1 : Nat → Int32, rm_XR r W nx1 fl1 → rm_Ot r nx fl nx1 fl1 → ∀ post : Int32 → SX → Prop, (∀ nx2 fl2 : Nat → Int32, rm_XR r W' nx2 fl2 → rm_Ot r nx fl nx2 fl2 → post 0 (nI U, nI M, pl, pt, tx, sr, bf, bh, pf, pc, tc, tk, nd, upd hd r h', nx2, fl2, upd sz r (nI W'.length), cs, cp, ro, mx, mt)) → wX_makeAll_2 post (nI r) S (k + 1) (nI c) (nI U) (nI M) pl pt tx sr bf bh pf pc tc tk nd (upd hd r h) nx1 fl1 (upd sz r (nI W.length)) cs cp ro mx mt) ∧
      (∀ wk1 : Nat → Int32, (∀ j, j < W.length → wk1 j = nI (rm_g W j)) → ∀ post : Int32 → SY → Prop, (∀ wk2 : Nat → Int32, (∀ j, j < W'.length → wk2 j = nI (rm_g W' j)) → post (nI (rm_cnt S M)) (nI U, nI M, nI W'.length, tx, sr, bf, bh, tc, pc, tk, pu, nd, sz, fi, cs, cp, hd, wk2, po, my)) → wY_makeAll_4 post S (k + 1) (nI (rm_cnt S c)) (nI c) (nI U) (nI M) (nI W.length) tx sr bf bh tc pc tk pu nd sz fi cs cp hd wk1 po my))
    ∨ (∃ code : Int32, code < 0 ∧
      (∀ nx1 fl1 : Nat → Int32, rm_XR r W nx1 fl1 → rm_Ot r nx fl nx1 fl1 → ∀ post : Int32 → SX → Prop, (∀ nx2 fl2 : Nat → Int32, rm_XR r W0 nx2 fl2 → rm_Ot r nx fl nx2 fl2 → post code (nI U, nI M, pl, pt, tx, sr, bf, bh, pf, pc, tc, tk, nd, upd hd r h0, nx2, fl2, upd sz r (nI W0.length), cs, cp, ro, mx, mt)) → wX_makeAll_2 post (nI r) S (k + 1) (nI c) (nI U) (nI M) pl pt tx sr bf bh pf pc tc tk nd (upd hd r h) nx1 fl1 (upd sz r (nI W.length)) cs cp ro mx mt) ∧
      (∀ wk1 : Nat → Int32, (∀ j, j < W.length → wk1 j = nI (rm_g W j)) → ∀ post : Int32 → SY → Prop, (∀ (ys : Int32) (wk2 : Nat → Int32), post code (nI U, nI M, ys, tx, sr, bf, bh, tc, pc, tk, pu, nd, sz, fi, cs, cp, hd, wk2, po, my)) → wY_makeAll_4 post S (k + 1) (nI (rm_cnt S c)) (nI c) (nI U) (nI M) (nI W.length) tx sr bf bh tc pc tk pu nd sz fi cs cp hd wk1 po my)) := by
  intro k
  induction k with
  | zero =>
    intro c W h hk hR hl hb hK
    have e : c = M := by omega
    subst e
    refine Or.inl ⟨W, h, hR, hl, fun i => ?_, hK, fun nx1 fl1 hX hO post hP => ?_, fun wk1 hw1 post hP => ?_⟩
    · rw [hb i]
      constructor
      · intro z
        rcases z with z | z
        · exact Or.inl z
        · exact Or.inr z.1
      · intro z
        rcases z with z | z
        · exact Or.inl z
        · exact Or.inr ⟨z, (hS0 i z).1⟩
    · rw [wX_makeAll_2]
      exact br_t (nI_le (Nat.le_refl _) (by omega)) (hP nx1 fl1 hX hO)
    · rw [wY_makeAll_4]
      exact br_t (nI_le (Nat.le_refl _) (by omega)) (hP wk1 hw1)
  | succ k ih =>
    intro c W h hk hR hl hb hK
    have hcM : c < M := by omega
    have nle : ¬ nI M ≤ nI c := nI_ge hcM (by omega)
    obtain ⟨he, hy⟩ := hE c hcM
    have hx := rm_BC_of hC hU hcM
    have hw := rm_W60 hC hU hR
    have hff := rm_WFF hC hU hR
    cases hbc : bt S c with
    | false =>
      have ecnt : rm_cnt S (c + 1) = rm_cnt S c := by
        show rm_cnt S c + (if bt S c = true then 1 else 0) = _
        rw [hbc]
        rfl
      have h5 := ih (c + 1) W h (by omega) hR hl (by
        intro i
        rw [hb i]
        constructor
        · intro z
          rcases z with z | z
          · exact Or.inl z
          · exact Or.inr ⟨z.1, by omega⟩
        · intro z
          rcases z with z | z
          · exact Or.inl z
          · refine Or.inr ⟨z.1, ?_⟩
            by_cases e : i = c
            · subst e; rw [hbc] at z; cases z.1
            · omega) (rm_bk_skip (by omega) hbc hK)
      rw [ecnt] at h5
      rcases h5 with ⟨W', h', q1, q2, q3, q4, q5, q6⟩ | ⟨code, q1, q2, q3⟩
      · refine Or.inl ⟨W', h', q1, q2, q3, q4, fun nx1 fl1 hX hO post hP => ?_, fun wk1 hw1 post hP => ?_⟩
        · have h6 := q5 nx1 fl1 hX hO post hP
          rw [wX_makeAll_2]
          refine br_f nle (br_f (rm_bitF (by omega) hbc) ?_)
          rw [nI_1]
          exact nm_e h6
        · have h6 := q6 wk1 hw1 post hP
          rw [wY_makeAll_4]
          refine br_f nle (ry_in (by omega) (fun z => by rw [hbc] at z; cases z) (fun _ => br_t (by trivial) ?_))
          rw [nI_1]
          exact nm_e h6
      · refine Or.inr ⟨code, q1, fun nx1 fl1 hX hO post hP => ?_, fun wk1 hw1 post hP => ?_⟩
        · have h6 := q2 nx1 fl1 hX hO post hP
          rw [wX_makeAll_2]
          refine br_f nle (br_f (rm_bitF (by omega) hbc) ?_)
          rw [nI_1]
          exact nm_e h6
        · have h6 := q3 wk1 hw1 post hP
          rw [wY_makeAll_4]
          refine br_f nle (ry_in (by omega) (fun z => by rw [hbc] at z; cases z) (fun _ => br_t (by trivial) ?_))
          rw [nI_1]
          exact nm_e h6
    | true =>
      have ecnt : rm_cnt S (c + 1) = rm_cnt S c + 1 := by
        show rm_cnt S c + (if bt S c = true then 1 else 0) = _
        rw [if_pos hbc]
      have bel : ∀ i, bt (S &&& (((1 : Int32) <<< (nI c &&& 31)) - 1)) i = (bt S i && decide (i < c)) := fun i => rm_below (by omega)
      have bel1 : ∀ i, i < c → bt (S &&& (((1 : Int32) <<< (nI c &&& 31)) - 1)) i = bt S i := by
        intro i hi
        rw [bel, decide_eq_true hi, Bool.and_true]
      have bel2 : ∀ i, c ≤ i → bt (S &&& (((1 : Int32) <<< (nI c &&& 31)) - 1)) i = false := by
        intro i hi
        rw [bel, decide_eq_false (by omega), Bool.and_false]
      have hT20 : (rm_cT (CH c)).length ≤ 20 := hx.2.2.2.2.2
      have hN20 : rm_cN (CH c) ≤ 20 := hx.2.2.2.2.1
      by_cases hS : rm_Std W (rm_cB (CH c)) (rm_cE (CH c)) (rm_cT (CH c))
      · obtain ⟨w1, w2, d1, d2, d3⟩ := hS
        subst d3
        have l1 : (w1 ++ (rm_cT (CH c) ++ w2)).length = w1.length + (rm_cT (CH c)).length + w2.length := by rw [List.length_append, List.length_append]; omega
        have l2 : (w1 ++ (rm_cP (CH c) ++ w2)).length = w1.length + rm_cN (CH c) + w2.length := by rw [List.length_append, List.length_append, rm_lP]; omega
        have hhc : bt h c = false := by
          cases z : bt h c with
          | false => rfl
          | true =>
            rcases (hb c).mp z with y | y
            · rw [(hS0 c hbc).2] at y; cases y
            · omega
        have hNd : ∀ d, bt (nd c) d = true → bt h d = true := by
          intro d hd2
          have hdc := (hC c hcM).2.2.2.2.2.2.2.2.1 d hd2
          rcases hSc c d hbc hd2 with z | z
          · exact (hb d).mpr (Or.inl z)
          · exact (hb d).mpr (Or.inr ⟨z, hdc⟩)
        have hR1 := rm_apply hC hM hcM hR hhc hNd d1 d2
        have hff1 := rm_WFF hC hU hR1
        have i1 : w1.length + (rm_cT (CH c)).length + w2.length + rm_cN (CH c) - (rm_cT (CH c)).length = w1.length + rm_cN (CH c) + w2.length := by omega
        have i2 : w1.length + (rm_cT (CH c)).length + w2.length - (rm_cT (CH c)).length + rm_cN (CH c) = w1.length + rm_cN (CH c) + w2.length := by omega
        by_cases hz : w1.length + rm_cN (CH c) + w2.length ≤ 20
        · have z20 : nI (w1.length + rm_cN (CH c) + w2.length) ≤ 20 := nI_le (b := 20) hz (by decide)
          have h5 := ih (c + 1) (w1 ++ (rm_cP (CH c) ++ w2)) (h ||| ((1 : Int32) <<< (nI c &&& 31))) (by omega) hR1 (by omega) (by
            intro i
            rw [rm_set (by omega), Bool.or_eq_true, decide_eq_true_eq, hb i]
            constructor
            · intro z
              rcases z with (z | z) | z
              · exact Or.inl z
              · exact Or.inr ⟨z.1, by omega⟩
              · exact Or.inr ⟨by rw [z]; exact hbc, by omega⟩
            · intro z
              rcases z with z | z
              · exact Or.inl (Or.inl z)
              · by_cases e : i = c
                · exact Or.inr e
                · exact Or.inl (Or.inr ⟨z.1, by omega⟩)) (rm_bk_step hr (by omega) hbc he hx d1 d2 hff hff1 hhc hK)
          rw [ecnt, l2] at h5
          rw [l1]
          have goX : ∀ (nx1 fl1 : Nat → Int32) (post : Int32 → SX → Prop), rm_XR r (w1 ++ (rm_cT (CH c) ++ w2)) nx1 fl1 → wX_makeAll_2 post (nI r) S (k + 1) (nI (c + 1)) (nI U) (nI M) pl pt tx sr bf bh pf pc tc tk nd (upd hd r (h ||| ((1 : Int32) <<< (nI c &&& 31)))) (rm_lnk r nx1 (rm_cB (CH c)) (rm_cP (CH c)) (rm_cE (CH c))) (rm_st r 1 (rm_st r 0 fl1 (rm_cT (CH c))) (rm_cP (CH c))) (upd sz r (nI (w1.length + rm_cN (CH c) + w2.length))) cs cp ro mx mt → wX_makeAll_2 post (nI r) S (k + 1 + 1) (nI c) (nI U) (nI M) pl pt tx sr bf bh pf pc tc tk nd (upd hd r h) nx1 fl1 (upd sz r (nI (w1.length + (rm_cT (CH c)).length + w2.length))) cs cp ro mx mt := by
            intro nx1 fl1 post hX h6
            rw [wX_makeAll_2]
            refine br_f nle (br_t (rm_bitT (by omega) hbc) (rx_runStands hr (by omega) hX hff hw he hx (fun _ => ?_) (fun z => absurd ⟨w1, w2, d1, d2, rfl⟩ z)))
            simp (disch := omega) only [forall_eq, true_and, rm_vin, nI_clamp, rm_62, rm_20, rm_21, rm_22, rm_p60, rm_p61, rm_p22, rm_p2, nI_1, nI_add, nI_pred, pk_m1, pk_us, he.2.2.2.1, he.2.2.2.2.1, pk_sub, i1]
            refine br_f rm_i10 (br_t z20 (rx_makeChange hr (by omega) he hx ?_))
            simp only [pk_us, rm_uu, rm_szE]
            exact h6
          have goY : ∀ (wk1 : Nat → Int32) (post : Int32 → SY → Prop), (∀ j, j < w1.length + (rm_cT (CH c)).length + w2.length → wk1 j = nI (rm_g (w1 ++ (rm_cT (CH c) ++ w2)) j)) → (∀ wk2 : Nat → Int32, (∀ j, j < w1.length + rm_cN (CH c) + w2.length → wk2 j = nI (rm_g (w1 ++ (rm_cP (CH c) ++ w2)) j)) → wY_makeAll_4 post S (k + 1) (nI (rm_cnt S c + 1)) (nI (c + 1)) (nI U) (nI M) (nI (w1.length + rm_cN (CH c) + w2.length)) tx sr bf bh tc pc tk pu nd sz fi cs cp hd wk2 po my) → wY_makeAll_4 post S (k + 1 + 1) (nI (rm_cnt S c)) (nI c) (nI U) (nI M) (nI (w1.length + (rm_cT (CH c)).length + w2.length)) tx sr bf bh tc pc tk pu nd sz fi cs cp hd wk1 po my := by
            intro wk1 post hw1 hP
            rw [wY_makeAll_4]
            refine br_f nle (ry_in (by omega) (fun _ => br_f rm_i10 ?_) (fun z => by rw [hbc] at z; cases z))
            refine ry_placeOfN (W := w1 ++ (rm_cT (CH c) ++ w2)) (Q := rm_cT (CH c)) l1 (by omega) (by omega) hw hff hw1 hT20 (rm_runle hx.1 hx.2.1 hx.2.2.1) (fun h => ry_len0 (by omega) he h) (fun hk h => ry_mem0 (by omega) he hx hk h) (fun v1 v2 f1 f2 f3 => ?_) (fun z => absurd ⟨w1, w2, d1, d2, rfl⟩ z)
            · obtain ⟨q1, q2⟩ := rm_uniq hff rfl f3 (d1.trans f1.symm)
              have q3 := List.append_cancel_left q2
              subst q1 q3
              refine br_t (nI_pos' (by omega)) ?_
              simp (disch := omega) only [forall_eq, true_and, rm_vin, nI_clamp, rm_62, rm_20, rm_21, rm_22, rm_p60, rm_p61, rm_p22, rm_p2, nI_1, nI_add, nI_pred, pk_m1, he.2.2.2.1, he.2.2.2.2.1, pk_sub, i2]
              refine br_t z20 ?_
              refine ry_replace (b := 0) (b' := 1) (B := rm_cB (CH c)) (E := rm_cE (CH c)) (w1 := w1) (Q := rm_cT (CH c)) (Q' := rm_cP (CH c)) (w2 := w2) (m := rm_cN (CH c)) (Or.inl ⟨rfl, rfl⟩) (by omega) rfl rfl (rm_lP _) rfl (by omega) hz hw1 (fun h => ry_len0 (by omega) he h) (fun h => ry_len1 (by omega) he (by rw [rm_lP]; exact h)) (fun hk h => ry_mem1 (by omega) he hy hx (by rw [rm_lP]; exact hk) h) (fun wk2 hwk2 => ?_)
              exact hP wk2 hwk2
          rcases h5 with ⟨W', h', q1, q2, q3, q4, q5, q6⟩ | ⟨code, q1, q2, q3⟩
          · refine Or.inl ⟨W', h', q1, q2, q3, q4, fun nx1 fl1 hX hO post hP => goX nx1 fl1 post hX (q5 _ _ (rm_relink hX hff hff1 d1 d2) (rm_Ot_step hO hx.1 hx.2.2.1 (rm_PltB hx)) post hP), fun wk1 hw1 post hP => goY wk1 post hw1 (fun wk2 hw2 => q6 wk2 hw2 post hP)⟩
          · refine Or.inr ⟨code, q1, fun nx1 fl1 hX hO post hP => goX nx1 fl1 post hX (q2 _ _ (rm_relink hX hff hff1 d1 d2) (rm_Ot_step hO hx.1 hx.2.2.1 (rm_PltB hx)) post hP), fun wk1 hw1 post hP => goY wk1 post hw1 (fun wk2 hw2 => q3 wk2 hw2 post hP)⟩
        · have n20 : ¬ nI (w1.length + rm_cN (CH c) + w2.length) ≤ 20 := nI_ge (a := 20) (by omega) (by omega)
          have i3 : (w1 ++ (rm_cT (CH c) ++ w2)).length + rm_cN (CH c) - (rm_cT (CH c)).length = w1.length + rm_cN (CH c) + w2.length := by omega
          have i4 : (w1 ++ (rm_cT (CH c) ++ w2)).length - (rm_cT (CH c)).length + rm_cN (CH c) = w1.length + rm_cN (CH c) + w2.length := by omega
          refine Or.inr ⟨-7, by decide, fun nx1 fl1 hX hO post hP => ?_, fun wk1 hw1 post hP => ?_⟩
          · rw [wX_makeAll_2]
            refine br_f nle (br_t (rm_bitT (by omega) hbc) (rx_runStands hr (by omega) hX hff hw he hx (fun _ => ?_) (fun z => absurd ⟨w1, w2, d1, d2, rfl⟩ z)))
            simp (disch := omega) only [forall_eq, true_and, rm_vin, nI_clamp, rm_62, rm_20, rm_21, rm_22, rm_p60, rm_p61, rm_p22, rm_p2, nI_1, nI_add, nI_pred, pk_m1, pk_us, he.2.2.2.1, he.2.2.2.2.1, pk_sub, i3]
            refine br_f rm_i10 (br_f n20 ?_)
            unfold wX_makeAll_61
            refine rx_takeAllBack (c := c) (by omega) hM hK bel1 bel2 hX hO (fun nx2 fl2 a b => ?_)
            exact br_f rm_i10 (hP nx2 fl2 a b)
          · rw [wY_makeAll_4]
            refine br_f nle (ry_in (by omega) (fun _ => br_f rm_i10 ?_) (fun z => by rw [hbc] at z; cases z))
            refine ry_placeOf (W := w1 ++ (rm_cT (CH c) ++ w2)) (Q := rm_cT (CH c)) (by omega) hl hw hff hw1 hT20 (rm_runle hx.1 hx.2.1 hx.2.2.1) (fun h => ry_len0 (by omega) he h) (fun hk h => ry_mem0 (by omega) he hx hk h) (fun v1 v2 f1 f2 f3 => ?_) (fun z => absurd ⟨w1, w2, d1, d2, rfl⟩ z)
            have lv : v1.length ≤ 20 := by
              have : (w1 ++ (rm_cT (CH c) ++ w2)).length = v1.length + ((rm_cT (CH c)).length + v2.length) := by rw [f3, List.length_append, List.length_append]
              omega
            refine br_t (nI_pos' (by omega)) ?_
            simp (disch := omega) only [forall_eq, true_and, rm_vin, nI_clamp, rm_62, rm_20, rm_21, rm_22, rm_p60, rm_p61, rm_p22, rm_p2, nI_1, nI_add, nI_pred, pk_m1, he.2.2.2.1, he.2.2.2.2.1, pk_sub, i4]
            exact br_f n20 (hP _ _)
      · refine Or.inr ⟨-6, by decide, fun nx1 fl1 hX hO post hP => ?_, fun wk1 hw1 post hP => ?_⟩
        · rw [wX_makeAll_2]
          refine br_f nle (br_t (rm_bitT (by omega) hbc) (rx_runStands hr (by omega) hX hff hw he hx (fun z => absurd z hS) (fun _ => ?_)))
          simp (disch := omega) only [forall_eq, true_and, rm_vin, nI_clamp]
          refine br_t (by trivial) ?_
          unfold wX_makeAll_61
          refine rx_takeAllBack (c := c) (by omega) hM hK bel1 bel2 hX hO (fun nx2 fl2 a b => ?_)
          exact br_t (by trivial) (hP nx2 fl2 a b)
        · rw [wY_makeAll_4]
          refine br_f nle (ry_in (by omega) (fun _ => br_f rm_i10 ?_) (fun z => by rw [hbc] at z; cases z))
          refine ry_placeOf (W := W) (Q := rm_cT (CH c)) (by omega) hl hw hff hw1 hT20 (rm_runle hx.1 hx.2.1 hx.2.2.1) (fun h => ry_len0 (by omega) he h) (fun hk h => ry_mem0 (by omega) he hx hk h) (fun v1 v2 f1 f2 f3 => absurd ⟨v1, v2, f1, f2, f3⟩ hS) (fun _ => ?_)
          exact br_f (by decide) (hP _ _)
end
end
section
/-! pull and canPull -/
theorem rm_ltne {x : Int32} (h : x < 0) : ¬ x = 0 := by
  intro e
  subst e
  exact absurd h (by decide)
theorem rm_cnt_le (S : Int32) (c : Nat) : rm_cnt S c ≤ c := by
  induction c with
  | zero => exact Nat.le_refl _
  | succ c ih =>
    show rm_cnt S c + (if bt S c = true then 1 else 0) ≤ c + 1
    split <;> omega
def rm_set0 (nd : Nat → Int32) (h : Int32) (c : Nat) : Int32 := (nd c ||| ((1 : Int32) <<< (nI c &&& 31))) &&& (h ^^^ (-1))
theorem rm_set0_bit {nd : Nat → Int32} {h : Int32} {c i : Nat} (hc : c < 32) : bt (rm_set0 nd h c) i = true ↔ (bt (nd c) i = true ∨ i = c) ∧ bt h i = false := by
  unfold rm_set0
  by_cases hi : i < 32
  · rw [b_and, b_xor, rm_set hc, b_m1 i hi, Bool.xor_true, Bool.and_eq_true, Bool.or_eq_true, decide_eq_true_eq, Bool.not_eq_true']
  · rw [b_big (by omega), b_big (by omega), b_big (by omega)]
    constructor
    · intro z; cases z
    · intro z
      rcases z.1 with y | y
      · cases y
      · omega
section
variable {U M : Nat} {pl pt ys : Int32} {tx sr bf bh pf pc tc tk nd hd nx fl sz cs cp ro mx mt pu fi wk po my : Nat → Int32}
theorem rm_ref {CH : Nat → rm_Ch} {F : Nat → List Nat} (v1 v2 v3 : Int32) (h1 : U ≤ 60) (h2 : M ≤ 16) (h3 : rm_CI U M CH nd) (h5 : ∀ q, q < 3 → rm_Rm M CH nd hd nx fl sz cs fi q (F q)) :
    (∃ code : Int32, code < 0 ∧ (∀ post : Int32 → SX → Prop, (∀ ro : Nat → Int32, post code (nI U, nI M, pl, pt, tx, sr, bf, bh, pf, pc, tc, tk, nd, hd, nx, fl, sz, cs, cp, ro, mx, mt)) → wpX_refusal post (nI U, nI M, pl, pt, tx, sr, bf, bh, pf, pc, tc, tk, nd, hd, nx, fl, sz, cs, cp, ro, mx, mt) v1 v2 v3) ∧ (∀ post : Int32 → SY → Prop, post code (nI U, nI M, ys, tx, sr, bf, bh, tc, pc, tk, pu, nd, sz, fi, cs, cp, hd, wk, po, my) → wpY_tryPull post (nI U, nI M, ys, tx, sr, bf, bh, tc, pc, tk, pu, nd, sz, fi, cs, cp, hd, wk, po, my) v1 v2 v3)) ∨
    (∃ r c : Nat, r < 3 ∧ c < M ∧ v1 = nI r ∧ v3 = nI c ∧ bt (hd r) c = false ∧ (∀ post : Int32 → SX → Prop, (∀ ro : Nat → Int32, post 0 (nI U, nI M, pl, pt, tx, sr, bf, bh, pf, pc, tc, tk, nd, hd, nx, fl, sz, cs, cp, ro, mx, mt)) → wpX_refusal post (nI U, nI M, pl, pt, tx, sr, bf, bh, pf, pc, tc, tk, nd, hd, nx, fl, sz, cs, cp, ro, mx, mt) v1 v2 v3) ∧ (∀ post : Int32 → SY → Prop, wpY_makeAll post (nI U, nI M, nI (F r).length, tx, sr, bf, bh, tc, pc, tk, pu, nd, sz, fi, cs, cp, hd, rm_wf wk 0 (F r).length (fun k => nI (rm_g (F r) k)), po, my) (rm_set0 nd (hd r) c) → wpY_tryPull post (nI U, nI M, ys, tx, sr, bf, bh, tc, pc, tk, pu, nd, sz, fi, cs, cp, hd, wk, po, my) v1 v2 v3)) := by
  have hno : v1 < 0 ∨ nI 3 ≤ v1 ∨ ∃ j : Nat, j < 3 ∧ v1 = nI j := pk_ix v1 (by decide)
  by_cases hx : v1 < 0 ∨ nI 3 ≤ v1
  · refine Or.inl ⟨-1, by decide, fun post hP => ?_, fun post hP => ?_⟩
    · unfold wpX_refusal
      exact rx_room_f hx (br_t (by trivial) (hP ro))
    · unfold wpY_tryPull
      exact ry_room_f hx (br_t (by trivial) hP)
  obtain ⟨r, hr, rfl⟩ : ∃ j : Nat, j < 3 ∧ v1 = nI j := by
    rcases hno with a | a | a
    · exact absurd (Or.inl a) hx
    · exact absurd (Or.inr a) hx
    · exact a
  have hno2 : v2 < 0 ∨ nI 3 ≤ v2 ∨ ∃ j : Nat, j < 3 ∧ v2 = nI j := pk_ix v2 (by decide)
  by_cases hx2 : v2 < 0 ∨ nI 3 ≤ v2
  · refine Or.inl ⟨-1, by decide, fun post hP => ?_, fun post hP => ?_⟩
    · unfold wpX_refusal
      exact rx_room_t hr (br_f rm_i10 (rx_room_f hx2 (br_t (by trivial) (hP ro))))
    · unfold wpY_tryPull
      exact ry_room_t hr (br_f rm_i10 (ry_room_f hx2 (br_t (by trivial) hP)))
  obtain ⟨q, hq, rfl⟩ : ∃ j : Nat, j < 3 ∧ v2 = nI j := by
    rcases hno2 with a | a | a
    · exact absurd (Or.inl a) hx2
    · exact absurd (Or.inr a) hx2
    · exact a
  have hno3 : v3 < 0 ∨ nI M ≤ v3 ∨ ∃ j : Nat, j < M ∧ v3 = nI j := pk_ix v3 (by omega)
  by_cases hx3 : v3 < 0 ∨ nI M ≤ v3
  · refine Or.inl ⟨-2, by decide, fun post hP => ?_, fun post hP => ?_⟩
    · unfold wpX_refusal
      exact rx_room_t hr (br_f rm_i10 (rx_room_t hq (br_f rm_i10 (rx_chg_f hx3 (br_t (by trivial) (hP ro))))))
    · unfold wpY_tryPull
      exact ry_room_t hr (br_f rm_i10 (ry_room_t hq (br_f rm_i10 (ry_chg_f hx3 (br_t (by trivial) hP)))))
  obtain ⟨c, hc, rfl⟩ : ∃ j : Nat, j < M ∧ v3 = nI j := by
    rcases hno3 with a | a | a
    · exact absurd (Or.inl a) hx3
    · exact absurd (Or.inr a) hx3
    · exact a
  cases hbq : bt (hd q) c with
  | false =>
    refine Or.inl ⟨-3, by decide, fun post hP => ?_, fun post hP => ?_⟩
    · unfold wpX_refusal
      exact rx_room_t hr (br_f rm_i10 (rx_room_t hq (br_f rm_i10 (rx_chg_t h2 hc (br_f rm_i10 (rx_holds hq (by omega) (fun z => by rw [hbq] at z; cases z) (fun _ => br_t (by trivial) (hP ro))))))))
    · unfold wpY_tryPull
      refine ry_room_t hr (br_f rm_i10 (ry_room_t hq (br_f rm_i10 (ry_chg_t h2 hc (br_f rm_i10 (And.intro (vp_in_nI hq (by decide)) ?_))))))
      rw [nI_clamp (show q < 2 ^ 31 by omega)]
      exact ry_in (by omega) (fun z => by rw [hbq] at z; cases z) (fun _ => br_t (by trivial) hP)
  | true =>
    cases hbr : bt (hd r) c with
    | true =>
      refine Or.inl ⟨-4, by decide, fun post hP => ?_, fun post hP => ?_⟩
      · unfold wpX_refusal
        exact rx_room_t hr (br_f rm_i10 (rx_room_t hq (br_f rm_i10 (rx_chg_t h2 hc (br_f rm_i10 (rx_holds hq (by omega) (fun _ => br_f rm_i10 (rx_holds hr (by omega) (fun _ => br_f rm_i10 (hP ro)) (fun z => by rw [hbr] at z; cases z))) (fun z => by rw [hbq] at z; cases z)))))))
      · unfold wpY_tryPull
        refine ry_room_t hr (br_f rm_i10 (ry_room_t hq (br_f rm_i10 (ry_chg_t h2 hc (br_f rm_i10 (And.intro (vp_in_nI hq (by decide)) ?_))))))
        rw [nI_clamp (show q < 2 ^ 31 by omega), nI_clamp (show r < 2 ^ 31 by omega)]
        exact ry_in (by omega) (fun _ => br_f rm_i10 (And.intro (vp_in_nI hr (by decide)) (ry_in (by omega) (fun _ => br_f rm_i10 hP) (fun z => by rw [hbr] at z; cases z)))) (fun z => by rw [hbq] at z; cases z)
    | false =>
      obtain ⟨a1, a2, a3, a4, a5, t, ht, hct⟩ := h5 r hr
      have hw := rm_W60 h3 h1 a1
      by_cases hcl : rm_cln tx cp r (F r) t
      · refine Or.inr ⟨r, c, hr, hc, rfl, rfl, hbr, fun post hP => ?_, fun post hP => ?_⟩
        · unfold wpX_refusal
          exact rx_room_t hr (br_f rm_i10 (rx_room_t hq (br_f rm_i10 (rx_chg_t h2 hc (br_f rm_i10 (rx_holds hq (by omega) (fun _ => br_f rm_i10 (rx_holds hr (by omega) (fun z => by rw [hbr] at z; cases z) (fun _ => br_t (by trivial) (rx_copyIsFile hr a4 a3 a2 hw hct ht (fun _ ro => br_f rm_i10 (hP ro)) (fun z => absurd hcl z))))) (fun z => by rw [hbq] at z; cases z)))))))
        · unfold wpY_tryPull
          refine ry_room_t hr (br_f rm_i10 (ry_room_t hq (br_f rm_i10 (ry_chg_t h2 hc (br_f rm_i10 (And.intro (vp_in_nI hq (by decide)) ?_))))))
          rw [nI_clamp (show q < 2 ^ 31 by omega), nI_clamp (show r < 2 ^ 31 by omega), nI_clamp (show c < 2 ^ 31 by omega)]
          exact ry_in (by omega) (fun _ => br_f rm_i10 (And.intro (vp_in_nI hr (by decide)) (ry_in (by omega) (fun z => by rw [hbr] at z; cases z) (fun _ => br_t (by trivial) (ry_isClean hr a3 a2 a5 hw hct ht (fun _ => br_f rm_i10 (ry_open hr a3 a5 a2 (And.intro (vp_in_nI (by omega) (by decide)) (And.intro (vp_in_nI hr (by decide)) hP)))) (fun z => absurd hcl z)))))) (fun z => by rw [hbq] at z; cases z)
      · refine Or.inl ⟨-5, by decide, fun post hP => ?_, fun post hP => ?_⟩
        · unfold wpX_refusal
          exact rx_room_t hr (br_f rm_i10 (rx_room_t hq (br_f rm_i10 (rx_chg_t h2 hc (br_f rm_i10 (rx_holds hq (by omega) (fun _ => br_f rm_i10 (rx_holds hr (by omega) (fun z => by rw [hbr] at z; cases z) (fun _ => br_t (by trivial) (rx_copyIsFile hr a4 a3 a2 hw hct ht (fun z => absurd z hcl) (fun _ ro => br_t (by trivial) (hP ro)))))) (fun z => by rw [hbq] at z; cases z)))))))
        · unfold wpY_tryPull
          refine ry_room_t hr (br_f rm_i10 (ry_room_t hq (br_f rm_i10 (ry_chg_t h2 hc (br_f rm_i10 (And.intro (vp_in_nI hq (by decide)) ?_))))))
          rw [nI_clamp (show q < 2 ^ 31 by omega), nI_clamp (show r < 2 ^ 31 by omega)]
          exact ry_in (by omega) (fun _ => br_f rm_i10 (And.intro (vp_in_nI hr (by decide)) (ry_in (by omega) (fun z => by rw [hbr] at z; cases z) (fun _ => br_t (by trivial) (ry_isClean hr a3 a2 a5 hw hct ht (fun z => absurd z hcl) (fun _ => br_t (by trivial) hP)))))) (fun z => by rw [hbq] at z; cases z)
theorem rx_count {post : Int32 → SX → Prop} {S : Int32} (hM : M ≤ 16) (H : post (nI (rm_cnt S M)) (nI U, nI M, pl, pt, tx, sr, bf, bh, pf, pc, tc, tk, nd, hd, nx, fl, sz, cs, cp, ro, mx, mt)) : ∃ n, wX_pull_67 post S (nI U) (nI M) pl pt tx sr bf bh pf pc tc tk nd hd nx fl sz cs cp ro mx mt n 0 0 := by
  have key : ∀ (d c : Nat), c + d = M → wX_pull_67 post S (nI U) (nI M) pl pt tx sr bf bh pf pc tc tk nd hd nx fl sz cs cp ro mx mt (d + 1) (nI (rm_cnt S c)) (nI c) := by
    intro d
    induction d with
    | zero =>
      intro c hc
      have e : c = M := by omega
      subst e
      rw [wX_pull_67]
      exact br_t (nI_le (Nat.le_refl _) (by omega)) H
    | succ d ih =>
      intro c hc
      have h5 := ih (c + 1) (by omega)
      have e : nI (rm_cnt S c) + ((S >>> (nI c &&& 31)) &&& 1) = nI (rm_cnt S (c + 1)) := by
        rw [rm_bit (by omega)]
        show _ = nI (rm_cnt S c + (if bt S c = true then 1 else 0))
        cases bt S c
        · exact Int32.add_zero _
        · exact nI_1 _
      rw [wX_pull_67]
      refine br_f (nI_ge (by omega) (by omega)) ?_
      rw [e, nI_1]
      exact nm_e (nm_e h5)
  exact ⟨_, key M 0 (by omega)⟩
end
theorem i_vc_pull {k : Nat} {u : SX} {v : SY} (I : i_Rel k u v) (hk : k + 4 ≤ 2048) (v1 : Int32) (v2 : Int32) (v3 : Int32) : wpX_pull (fun r u' => wpY_pull (fun r' v' => r' = r ∧ i_Rel (k + 4) u' v') v v1 v2 v3) u v1 v2 v3 := by
  refine rm_el (P := fun u v => wpX_pull (fun r u' => wpY_pull (fun r' v' => r' = r ∧ i_Rel (k + 4) u' v') v v1 v2 v3) u v1 v2 v3) ?_ I
  intro U M pl pt ys tx sr bf bh pf pc tc tk nd hd nx fl sz cs cp ro mx mt pu fi wk po my hR
  have hR2 := hR
  obtain ⟨CH, F, h1, h2, h3, h4, h5⟩ := hR2
  unfold wpX_pull
  rcases rm_ref (pl := pl) (pt := pt) (ys := ys) (tx := tx) (sr := sr) (bf := bf) (bh := bh) (pf := pf) (pc := pc) (tc := tc) (tk := tk) (cp := cp) (ro := ro) (mx := mx) (mt := mt) (pu := pu) (wk := wk) (po := po) (my := my) v1 v2 v3 h1 h2 h3 h5 with ⟨code, q1, q2, q3⟩ | ⟨r, c, hr, hc, rfl, rfl, hbr, q2, q3⟩
  · refine q2 _ (fun ro => br_f (rm_ltne q1) ?_)
    unfold wpY_pull
    exact q3 _ (br_t q1 ⟨rfl, rm_i hR⟩)
  · refine q2 _ (fun ro => br_t (by trivial) (And.intro (vp_in_nI (by omega) (by decide)) (And.intro (vp_in_nI hr (by decide)) ?_)))
    rw [nI_clamp (show r < 2 ^ 31 by omega), nI_clamp (show c < 2 ^ 31 by omega)]
    refine nm_r (e' := rm_set0 nd (hd r) c) rfl ?_
    obtain ⟨a1, a2, a3, a4, a5, a6⟩ := h5 r hr
    have hw := rm_W60 h3 h1 a1
    have hbit : ∀ i, bt (rm_set0 nd (hd r) c) i = true ↔ (bt (nd c) i = true ∨ i = c) ∧ bt (hd r) i = false := fun i => rm_set0_bit (by omega)
    have hndc := (h3 c hc).2.2.2.2.2.2.2.2.1
    have htr := (h3 c hc).2.2.2.2.2.2.2.2.2.1
    have A := rm_all (U := U) (M := M) (pl := pl) (pt := pt) (tx := tx) (sr := sr) (pf := pf) (nx := nx) (fl := fl) (sz := sz) (cs := cs) (cp := cp) (ro := ro) (mx := mx) (mt := mt) (pu := pu) (fi := fi) (po := po) (my := my) (hd := hd) (S := rm_set0 nd (hd r) c) (h0 := hd r) (W0 := F r) hr h1 h2 h3 h4 (by
      intro i hi
      obtain ⟨z1, z2⟩ := (hbit i).mp hi
      refine ⟨?_, z2⟩
      rcases z1 with z1 | z1
      · have := hndc i z1; omega
      · omega) (by
      intro i d hi hd2
      obtain ⟨z1, z2⟩ := (hbit i).mp hi
      have hd3 : bt (nd c) d = true := by
        rcases z1 with z1 | z1
        · exact htr i d z1 hd2
        · rw [z1] at hd2; exact hd2
      cases hz : bt (hd r) d with
      | true => exact Or.inl rfl
      | false => exact Or.inr ((hbit d).mpr ⟨Or.inl hd3, hz⟩)) M 0 (F r) (hd r) (by omega) a1 a2 (by
      intro i
      constructor
      · intro z; exact Or.inl z
      · intro z
        rcases z with z | z
        · exact z
        · omega) rm_bk0
    have e1 : upd hd r (hd r) = hd := rm_ui hd r
    have e2 : upd sz r (nI (F r).length) = sz := rm_ue a3
    rw [e1, e2] at A
    have hO0 : rm_Ot r nx fl nx fl := fun q _ _ L _ => ⟨rfl, rfl⟩
    rcases A with ⟨W', h', p1, p2, p3, p4, p5, p6⟩ | ⟨code, p1, p2, p3⟩
    · unfold wpX_makeAll
      refine ⟨M + 1, p5 nx fl a4 hO0 _ (fun nx2 fl2 hX2 hO2 => br_t (by trivial) ?_)⟩
      have hw' := rm_W60 h3 h1 p1
      refine rx_revert hr hX2 pk_us p2 hw' (rx_count h2 ?_)
      unfold wpY_pull
      refine q3 _ ?_
      unfold wpY_makeAll
      refine ⟨M + 1, p6 _ (fun j hj => rm_roI hj) _ (fun wk2 hw2 => ?_)⟩
      have hcl := rm_cnt_le (rm_set0 nd (hd r) c) M
      refine br_f (nI_pos (by omega)) (ry_keep hr hw2 p2 (And.intro (vp_in_nI hr (by decide)) (And.intro (vp_in_nI (by omega) (by decide)) (And.intro (vp_in_nI hr (by decide)) ?_))))
      rw [nI_clamp (show r < 2 ^ 31 by omega), nI_clamp (show c < 2 ^ 31 by omega)]
      have eh : (hd r ||| nd c) ||| ((1 : Int32) <<< (nI c &&& 31)) = h' := by
        apply b_ext
        intro i hi
        rw [rm_set (by omega), b_or]
        have p3i := p3 i
        rw [hbit i] at p3i
        cases y1 : bt h' i with
        | true =>
          rcases p3i.mp y1 with z | z
          · rw [z]; simp
          · rcases z.1 with z | z
            · rw [z]; simp
            · simp [z]
        | false =>
          have n1 : bt (hd r) i = false := by
            cases y2 : bt (hd r) i with
            | false => rfl
            | true => rw [p3i.mpr (Or.inl y2)] at y1; cases y1
          have n2 : bt (nd c) i = false := by
            cases y2 : bt (nd c) i with
            | false => rfl
            | true => rw [p3i.mpr (Or.inr ⟨Or.inl y2, n1⟩)] at y1; cases y1
          have n3 : ¬ i = c := by
            intro y2
            rw [p3i.mpr (Or.inr ⟨Or.inr y2, n1⟩)] at y1; cases y1
          rw [n1, n2, decide_eq_false n3]; rfl
      refine nm_r (e' := upd hd r h') (by rw [eh]) ?_
      refine ry_revert (W := W') hr pk_us (fun k hk => rm_wf_i hk) p2 hw' ⟨rfl, rm_i ?_⟩
      refine rm_R_set (r := r) (W := W') h1 h2 h3 h4 h5 ⟨?_, p2, pk_us, hX2, fun k hk => rm_wf_i hk, W'.length, p2, pk_us⟩ ?_
      · rw [pk_us]; exact p1
      · intro q hq hne
        exact ⟨pk_un hne, pk_un hne, pk_un hne, fun L hL => hO2 q hq hne L hL, fun k hk => rm_wf_o (by omega)⟩
    · unfold wpX_makeAll
      refine ⟨M + 1, p2 nx fl a4 hO0 _ (fun nx2 fl2 hX2 hO2 => br_f (rm_ltne p1) ?_)⟩
      unfold wpY_pull
      refine q3 _ ?_
      unfold wpY_makeAll
      refine ⟨M + 1, p3 _ (fun j hj => rm_roI hj) _ (fun ys wk2 => br_t p1 ⟨rfl, rm_i ?_⟩)⟩
      refine rm_R_set (r := r) (W := F r) h1 h2 h3 h4 h5 ⟨a1, a2, a3, hX2, a5, a6⟩ ?_
      intro q hq hne
      exact ⟨rfl, rfl, rfl, fun L hL => hO2 q hq hne L hL, fun k hk => rfl⟩
theorem i_vc_canPull {k : Nat} {u : SX} {v : SY} (I : i_Rel k u v) (hk : k + 4 ≤ 2048) (v1 : Int32) (v2 : Int32) (v3 : Int32) : wpX_canPull (fun r u' => wpY_canPull (fun r' v' => r' = r ∧ i_Rel (k + 4) u' v') v v1 v2 v3) u v1 v2 v3 := by
  refine rm_el (P := fun u v => wpX_canPull (fun r u' => wpY_canPull (fun r' v' => r' = r ∧ i_Rel (k + 4) u' v') v v1 v2 v3) u v1 v2 v3) ?_ I
  intro U M pl pt ys tx sr bf bh pf pc tc tk nd hd nx fl sz cs cp ro mx mt pu fi wk po my hR
  have hR2 := hR
  obtain ⟨CH, F, h1, h2, h3, h4, h5⟩ := hR2
  unfold wpX_canPull
  rcases rm_ref (pl := pl) (pt := pt) (ys := ys) (tx := tx) (sr := sr) (bf := bf) (bh := bh) (pf := pf) (pc := pc) (tc := tc) (tk := tk) (cp := cp) (ro := ro) (mx := mx) (mt := mt) (pu := pu) (wk := wk) (po := po) (my := my) v1 v2 v3 h1 h2 h3 h5 with ⟨code, q1, q2, q3⟩ | ⟨r, c, hr, hc, rfl, rfl, hbr, q2, q3⟩
  · refine q2 _ (fun ro => br_f (rm_ltne q1) ?_)
    unfold wpY_canPull
    exact q3 _ (br_t q1 ⟨rfl, rm_i hR⟩)
  · refine q2 _ (fun ro => br_t (by trivial) (And.intro (vp_in_nI (by omega) (by decide)) (And.intro (vp_in_nI hr (by decide)) ?_)))
    rw [nI_clamp (show r < 2 ^ 31 by omega), nI_clamp (show c < 2 ^ 31 by omega)]
    refine nm_r (e' := rm_set0 nd (hd r) c) rfl ?_
    obtain ⟨a1, a2, a3, a4, a5, a6⟩ := h5 r hr
    have hw := rm_W60 h3 h1 a1
    have hbit : ∀ i, bt (rm_set0 nd (hd r) c) i = true ↔ (bt (nd c) i = true ∨ i = c) ∧ bt (hd r) i = false := fun i => rm_set0_bit (by omega)
    have hndc := (h3 c hc).2.2.2.2.2.2.2.2.1
    have htr := (h3 c hc).2.2.2.2.2.2.2.2.2.1
    have hS0 : ∀ i, bt (rm_set0 nd (hd r) c) i = true → i < M ∧ bt (hd r) i = false := by
      intro i hi
      obtain ⟨z1, z2⟩ := (hbit i).mp hi
      refine ⟨?_, z2⟩
      rcases z1 with z1 | z1
      · have := hndc i z1; omega
      · omega
    have A := rm_all (U := U) (M := M) (pl := pl) (pt := pt) (tx := tx) (sr := sr) (pf := pf) (nx := nx) (fl := fl) (sz := sz) (cs := cs) (cp := cp) (ro := ro) (mx := mx) (mt := mt) (pu := pu) (fi := fi) (po := po) (my := my) (hd := hd) (S := rm_set0 nd (hd r) c) (h0 := hd r) (W0 := F r) hr h1 h2 h3 h4 hS0 (by
      intro i d hi hd2
      obtain ⟨z1, z2⟩ := (hbit i).mp hi
      have hd3 : bt (nd c) d = true := by
        rcases z1 with z1 | z1
        · exact htr i d z1 hd2
        · rw [z1] at hd2; exact hd2
      cases hz : bt (hd r) d with
      | true => exact Or.inl rfl
      | false => exact Or.inr ((hbit d).mpr ⟨Or.inl hd3, hz⟩)) M 0 (F r) (hd r) (by omega) a1 a2 (by
      intro i
      constructor
      · intro z; exact Or.inl z
      · intro z
        rcases z with z | z
        · exact z
        · omega) rm_bk0
    have e1 : upd hd r (hd r) = hd := rm_ui hd r
    have e2 : upd sz r (nI (F r).length) = sz := rm_ue a3
    rw [e1, e2] at A
    have hO0 : rm_Ot r nx fl nx fl := fun q _ _ L _ => ⟨rfl, rfl⟩
    have hend : ∀ (ys : Int32) (ro wk nx2 fl2 : Nat → Int32), rm_XR r (F r) nx2 fl2 → rm_Ot r nx fl nx2 fl2 → i_Rel (k + 4) (nI U, nI M, pl, pt, tx, sr, bf, bh, pf, pc, tc, tk, nd, hd, nx2, fl2, sz, cs, cp, ro, mx, mt) (nI U, nI M, ys, tx, sr, bf, bh, tc, pc, tk, pu, nd, sz, fi, cs, cp, hd, wk, po, my) := by
      intro ys ro wk nx2 fl2 hX2 hO2
      refine rm_i (rm_R_set (r := r) (W := F r) h1 h2 h3 h4 h5 ⟨a1, a2, a3, hX2, a5, a6⟩ ?_)
      intro q hq hne
      exact ⟨rfl, rfl, rfl, fun L hL => hO2 q hq hne L hL, fun k hk => rfl⟩
    rcases A with ⟨W', h', p1, p2, p3, p4, p5, p6⟩ | ⟨code, p1, p2, p3⟩
    · unfold wpX_makeAll
      refine ⟨M + 1, p5 nx fl a4 hO0 _ (fun nx2 fl2 hX2 hO2 => br_t (by trivial) ?_)⟩
      refine rx_takeAllBack (c := M) (Nat.le_refl _) h2 p4 (fun i _ => rfl) (fun i hi => ?_) hX2 hO2 (fun nx3 fl3 hX3 hO3 => ?_)
      · cases hz : bt (rm_set0 nd (hd r) c) i with
        | false => rfl
        | true =>
          have := (hS0 i hz).1
          omega
      · rw [e1, e2]
        unfold wpY_canPull
        refine q3 _ ?_
        unfold wpY_makeAll
        refine ⟨M + 1, p6 _ (fun j hj => rm_roI hj) _ (fun wk2 hw2 => ?_)⟩
        have hcl := rm_cnt_le (rm_set0 nd (hd r) c) M
        exact br_f (nI_pos (by omega)) ⟨rfl, hend _ _ _ _ _ hX3 hO3⟩
    · unfold wpX_makeAll
      refine ⟨M + 1, p2 nx fl a4 hO0 _ (fun nx2 fl2 hX2 hO2 => br_f (rm_ltne p1) ?_)⟩
      unfold wpY_canPull
      refine q3 _ ?_
      unfold wpY_makeAll
      exact ⟨M + 1, p3 _ (fun j hj => rm_roI hj) _ (fun ys wk2 => br_t p1 ⟨rfl, hend _ _ _ _ _ hX2 hO2⟩)⟩
end
section
/-! a new change is described, both sides -/
theorem rm_lst_take0 (W : List Nat) : rm_lst 60 (W.take 0) = 60 := rfl
theorem rm_lst_takeS {W : List Nat} {j : Nat} (h : j < W.length) : rm_lst 60 (W.take (j + 1)) = rm_g W j := by
  rw [rm_lst_g, List.length_take, show min (j + 1) W.length = j + 1 from by omega]
  show rm_g (W.take (j + 1)) j = _
  exact rm_g_take _ _ _ (by omega)
theorem rm_hdd_drop {W : List Nat} {a : Nat} (h : a < W.length) : rm_hdd 61 (W.drop a) = rm_g W a := by
  rw [rm_drop_cons h]
  rfl
theorem rm_hdd_end (W : List Nat) : rm_hdd 61 (W.drop W.length) = 61 := by
  rw [List.drop_eq_nil_of_le (Nat.le_refl _)]
  rfl
theorem rm_lst_le {W : List Nat} (hw : ∀ L, L ∈ W → L < 60) (l : Nat) : rm_lst 60 (W.take l) ≤ 60 := by
  rcases List.mem_cons.mp (rm_lst_mem 60 (W.take l)) with a | a
  · omega
  · have := hw _ (List.mem_of_mem_take a)
    omega
theorem rm_hdd_le {W : List Nat} (hw : ∀ L, L ∈ W → L < 60) (a : Nat) : rm_hdd 61 (W.drop a) ≤ 61 := rm_ih (fun L hL => hw L (List.mem_of_mem_drop hL))
theorem rm_T_len {W : List Nat} {l a : Nat} (h : a ≤ W.length) : ((W.drop l).take (a - l)).length = a - l := by
  rw [List.length_take, List.length_drop]
  omega
theorem rm_T_g {W : List Nat} {l a k : Nat} (h : k < a - l) : rm_g ((W.drop l).take (a - l)) k = rm_g W (l + k) := by
  rw [rm_g_take _ _ _ h, rm_g_drop]
theorem rm_EC_new {x : rm_Ch} {bf bh pf pc tc tk : Nat → Int32} {d M n : Nat} {v1 v2 v3 v4 v5 : Int32} {f : Nat → Int32} (hd : d < M) (hb : rm_BC x) (h : rm_EC x bf bh pf pc tc tk d) : rm_EC x (upd bf M v1) (upd bh M v2) (upd pf M v3) (upd pc M v4) (upd tc M v5) (rm_wf tk (20 * M) n f) d := by
  obtain ⟨e1, e2, e3, e4, e5, e6⟩ := h
  have b6 := hb.2.2.2.2.2
  refine ⟨?_, ?_, ?_, ?_, ?_, fun k hk => ?_⟩
  · rw [pk_un (by omega)]; exact e1
  · rw [pk_un (by omega)]; exact e2
  · rw [pk_un (by omega)]; exact e3
  · rw [pk_un (by omega)]; exact e4
  · rw [pk_un (by omega)]; exact e5
  · rw [rm_wf_o (by omega)]; exact e6 k hk
theorem rm_EY_new {x : rm_Ch} {pu : Nat → Int32} {d M n : Nat} {f : Nat → Int32} (hd : d < M) (hb : rm_BC x) (h : rm_EY x pu d) : rm_EY x (rm_wf pu (20 * M) n f) d := by
  intro k hk
  have b5 := hb.2.2.2.2.1
  rw [rm_wf_o (by omega)]
  exact h k hk
theorem rm_EC_M {W : List Nat} {bf bh pf pc tc tk : Nat → Int32} {M U l a p B E : Nat} (ha : a ≤ W.length) : rm_EC (B, E, U, p, (W.drop l).take (a - l)) (upd bf M (nI B)) (upd bh M (nI E)) (upd pf M (nI U)) (upd pc M (nI p)) (upd tc M (nI (a - l))) (rm_wf tk (20 * M) (a - l) (fun k => nI (rm_g W (l + k)))) M := by
  refine ⟨pk_us, pk_us, pk_us, pk_us, ?_, fun k hk => ?_⟩
  · show upd tc M (nI (a - l)) M = nI ((W.drop l).take (a - l)).length
    rw [rm_T_len ha]
    exact pk_us
  · have hk' : k < a - l := by
      have : k < ((W.drop l).take (a - l)).length := hk
      rw [rm_T_len ha] at this
      exact this
    show _ = nI (rm_g ((W.drop l).take (a - l)) k)
    rw [rm_T_g hk']
    exact rm_wf_i hk'
theorem rm_BC_M {W : List Nat} {U l a p : Nat} (hw : ∀ L, L ∈ W → L < 60) (hl : W.length ≤ 20) (hU : U + p ≤ 60) (hp : p ≤ 20) : rm_BC (rm_lst 60 (W.take l), rm_hdd 61 (W.drop a), U, p, (W.drop l).take (a - l)) := by
  refine ⟨rm_lst_le hw l, rm_hdd_le hw a, fun L hL => hw L (List.mem_of_mem_drop (List.mem_of_mem_take hL)), hU, hp, ?_⟩
  show ((W.drop l).take (a - l)).length ≤ 20
  rw [List.length_take, List.length_drop]
  omega
section
variable {U M : Nat} {pl pt ys : Int32} {tx sr bf bh pf pc tc tk nd hd nx fl sz cs cp ro mx mt pu fi wk po my : Nat → Int32}
variable {r l a x b : Nat} {W : List Nat} {CH : Nat → rm_Ch}
theorem rx_describe {post : SX → Prop} (hr : r < 3) (hM : M < 16) (hU : U + (b - x) ≤ 60) (hla : l ≤ a) (haw : a ≤ W.length) (hl : W.length ≤ 20) (hxb : x ≤ b) (hb : b ≤ 20) (hs : sz r = nI W.length) (hro : ∀ k, k < W.length → ro k = nI (rm_g W k)) (hw : ∀ L, L ∈ W → L < 60) (hlt : ∀ d, bt (hd r) d = true → d < M) (hall : ∀ d, d < M → rm_EC (CH d) bf bh pf pc tc tk d ∧ rm_BC (CH d) ∧ rm_cB (CH d) ∉ rm_cP (CH d)) (H : post (nI (U + (b - x)), nI (M + 1), pl, pt, rm_wf tx U (b - x) (fun k => cp (20 * r + (x + k))), rm_wf sr U (b - x) (fun _ => nI M), upd bf M (nI (rm_lst 60 (W.take l))), upd bh M (nI (rm_hdd 61 (W.drop a))), upd pf M (nI U), upd pc M (nI (b - x)), upd tc M (nI (a - l)), rm_wf tk (20 * M) (a - l) (fun k => nI (rm_g W (l + k))), upd nd M (rm_need CH nd (hd r) M (rm_lst 60 (W.take l)) ((W.drop l).take (a - l) ++ [rm_hdd 61 (W.drop a)])), hd, nx, fl, sz, cs, cp, ro, mx, mt)) : wpX_describe post (nI U, nI M, pl, pt, tx, sr, bf, bh, pf, pc, tc, tk, nd, hd, nx, fl, sz, cs, cp, ro, mx, mt) (nI r) (nI l) (nI a) (nI x) (nI b) := by
  have k142 : ∀ (d k : Nat), k + d = b - x → wX_describe_142 post (nI r) (nI b) (nI M) (nI (M + 1)) pl pt (d + 1) (nI (x + k)) (nI (U + k)) (rm_wf tx U k (fun k => cp (20 * r + (x + k)))) (rm_wf sr U k (fun _ => nI M)) (upd bf M (nI (rm_lst 60 (W.take l)))) (upd bh M (nI (rm_hdd 61 (W.drop a)))) (upd pf M (nI U)) (upd pc M (nI (b - x))) (upd tc M (nI (a - l))) (rm_wf tk (20 * M) (a - l) (fun k => nI (rm_g W (l + k)))) nd hd nx fl sz cs cp ro mx mt := by
    intro d
    induction d with
    | zero =>
      intro k hk
      have e : k = b - x := by omega
      subst e
      rw [wX_describe_142]
      refine br_t (nI_le (by omega) (by omega)) ?_
      refine rx_findNeeds (CH := CH) (x := (rm_lst 60 (W.take l), rm_hdd 61 (W.drop a), U, b - x, (W.drop l).take (a - l))) hr hM (rm_EC_M haw) (rm_BC_M hw hl hU (by omega)) hlt (fun d hd2 => ?_) H
      obtain ⟨a1, a2, a3⟩ := hall d hd2
      exact ⟨rm_EC_new hd2 a2 a1, a2, a3⟩
    | succ d ih =>
      intro k hk
      have h5 := ih (k + 1) (by omega)
      have e1 := rm_wfS tx U k (fun k => cp (20 * r + (x + k)))
      have e2 := rm_wfS sr U k (fun _ => nI M)
      rw [wX_describe_142]
      refine br_f (nI_ge (by omega) (by omega)) ?_
      simp (disch := omega) only [forall_eq, true_and, rm_vin, nI_clamp, rm_62, rm_20, rm_21, rm_22, rm_p60, rm_p61, rm_p22, rm_p2, nI_1, nI_add, nI_pred, pk_m1, e1, e2]
      exact h5
  have k81 : ∀ (d k : Nat), k + d = a - l → wX_describe_81 post (nI r) (nI l) (nI a) (nI x) (nI b) (nI M) (nI U) (nI (M + 1)) pl pt (d + 1) (nI (l + k)) tx sr (upd bf M (nI (rm_lst 60 (W.take l)))) (upd bh M (nI (rm_hdd 61 (W.drop a)))) pf pc (upd tc M (nI (a - l))) (rm_wf tk (20 * M) k (fun k => nI (rm_g W (l + k)))) nd hd nx fl sz cs cp ro mx mt := by
    intro d
    induction d with
    | zero =>
      intro k hk
      have e : k = a - l := by omega
      subst e
      have h5 := k142 (b - x) 0 (by omega)
      rw [rm_wf0, rm_wf0] at h5
      rw [wX_describe_81]
      refine br_t (nI_le (by omega) (by omega)) ?_
      simp (disch := omega) only [forall_eq, true_and, rm_vin, nI_clamp, rm_62, rm_20, rm_21, rm_22, rm_p60, rm_p61, rm_p22, rm_p2, nI_1, nI_add, nI_pred, pk_m1, pk_sub]
      exact ⟨_, h5⟩
    | succ d ih =>
      intro k hk
      have h5 := ih (k + 1) (by omega)
      have e1 := rm_wfS tk (20 * M) k (fun k => nI (rm_g W (l + k)))
      have i1 : 20 * M + (l + k) - l = 20 * M + k := by omega
      have e2 := hro (l + k) (by omega)
      rw [wX_describe_81]
      refine br_f (nI_ge (by omega) (by omega)) ?_
      simp (disch := omega) only [forall_eq, true_and, rm_vin, nI_clamp, rm_62, rm_20, rm_21, rm_22, rm_p60, rm_p61, rm_p22, rm_p2, nI_1, nI_add, nI_pred, pk_m1, pk_sub, i1, e2, e1]
      exact h5
  have h81 := k81 (a - l) 0 (by omega)
  rw [rm_wf0] at h81
  have d67 : ∀ z0 : Int32, z0 = nI (rm_hdd 61 (W.drop a)) → wX_describe_67 post (nI r) (nI l) (nI a) (nI x) (nI b) (nI M) z0 (nI M) (nI U) (nI (M + 1)) pl pt tx sr (upd bf M (nI (rm_lst 60 (W.take l)))) bh pf pc tc tk nd hd nx fl sz cs cp ro mx mt := by
    intro z0 ez
    subst ez
    unfold wX_describe_67
    simp (disch := omega) only [forall_eq, true_and, rm_vin, nI_clamp, rm_62, rm_20, rm_21, rm_22, rm_p60, rm_p61, rm_p22, rm_p2, nI_1, nI_add, nI_pred, pk_m1, pk_sub]
    exact ⟨_, h81⟩
  have d39 : ∀ z0 : Int32, z0 = nI (rm_lst 60 (W.take l)) → wX_describe_39 post (nI r) (nI l) (nI a) (nI x) (nI b) (nI M) z0 (nI M) (nI U) (nI (M + 1)) pl pt tx sr bf bh pf pc tc tk nd hd nx fl sz cs cp ro mx mt := by
    intro z0 ez
    subst ez
    unfold wX_describe_39
    simp (disch := omega) only [forall_eq, true_and, rm_vin, nI_clamp, rm_62, rm_20, rm_21, rm_22, rm_p60, rm_p61, rm_p22, rm_p2, nI_1, nI_add, nI_pred, pk_m1, hs, nI_eq]
    refine ⟨fun h => d67 61 ?_, fun h => ?_⟩
    · subst h
      rw [rm_hdd_end]
      rfl
    · have h6 : a < W.length := by omega
      simp (disch := omega) only [forall_eq, true_and, rm_vin, nI_clamp, rm_62, rm_20, rm_21, rm_22, rm_p60, rm_p61, rm_p22, rm_p2, nI_1, nI_add, nI_pred, pk_m1]
      refine d67 _ ?_
      rw [hro a h6, rm_hdd_drop h6]
  unfold wpX_describe
  refine nm_r (e' := nI (M + 1)) (nI_1 M) ?_
  cases l with
  | zero => exact br_t (by trivial) (d39 60 rfl)
  | succ j =>
    refine br_f (nI_ne0 (by omega) (by omega)) ?_
    rw [nI_pred, nI_clamp (show j < 2 ^ 31 by omega)]
    refine And.intro (vp_in_nI (by omega) (by decide)) (d39 _ ?_)
    rw [hro j (by omega), rm_lst_takeS (by omega)]
theorem ry_makeChange {post : SY → Prop} (hr : r < 3) (hM : M < 16) (hU : U + (b - x) ≤ 60) (hla : l ≤ a) (haw : a ≤ W.length) (hl : W.length ≤ 20) (hxb : x ≤ b) (hb : b ≤ 20) (hs : sz r = nI W.length) (hf : ∀ k, k < W.length → fi (20 * r + k) = nI (rm_g W k)) (hw : ∀ L, L ∈ W → L < 60) (hall : ∀ d, d < M → rm_EC (CH d) bf bh pf pc tc tk d ∧ rm_EY (CH d) pu d ∧ rm_BC (CH d)) (H : post (nI (U + (b - x)), nI (M + 1), ys, rm_wf tx U (b - x) (fun k => cp (20 * r + (x + k))), rm_wf sr U (b - x) (fun _ => nI M), upd bf M (nI (rm_lst 60 (W.take l))), upd bh M (nI (rm_hdd 61 (W.drop a))), upd tc M (nI (a - l)), upd pc M (nI (b - x)), rm_wf tk (20 * M) (a - l) (fun k => nI (rm_g W (l + k))), rm_wf pu (20 * M) (b - x) (fun k => nI (U + k)), upd nd M (rm_need CH nd (hd r) M (rm_lst 60 (W.take l)) ((W.drop l).take (a - l) ++ [rm_hdd 61 (W.drop a)])), sz, fi, cs, cp, hd, rm_wf wk x (b - x) (fun k => nI (U + k)), po, my)) : wpY_makeChange post (nI U, nI M, ys, tx, sr, bf, bh, tc, pc, tk, pu, nd, sz, fi, cs, cp, hd, wk, po, my) (nI r) (nI l - 1) (nI a) (nI x - 1) (nI b) := by
  have k146 : ∀ (d k : Nat), k + d = b - x → wY_makeChange_146 post (nI r) (nI b) (nI M) (nI M) ys (d + 1) (nI (x + k)) (nI (U + k)) (rm_wf tx U k (fun k => cp (20 * r + (x + k)))) (rm_wf sr U k (fun _ => nI M)) (upd bf M (nI (rm_lst 60 (W.take l)))) (upd bh M (nI (rm_hdd 61 (W.drop a)))) (upd tc M (nI (a - l))) (upd pc M (nI k)) (rm_wf tk (20 * M) (a - l) (fun k => nI (rm_g W (l + k)))) (rm_wf pu (20 * M) k (fun k => nI (U + k))) nd sz fi cs cp hd (rm_wf wk x k (fun k => nI (U + k))) po my := by
    intro d
    induction d with
    | zero =>
      intro k hk
      have e : k = b - x := by omega
      subst e
      rw [wY_makeChange_146]
      refine br_t (nI_le (by omega) (by omega)) ?_
      refine ry_findNeeds (pf := upd pf M (nI U)) (CH := CH) (x := (rm_lst 60 (W.take l), rm_hdd 61 (W.drop a), U, b - x, (W.drop l).take (a - l))) hr hM (rm_EC_M haw) (rm_BC_M hw hl hU (by omega)) (fun d hd2 => ?_) ?_
      · obtain ⟨a1, a2, a3⟩ := hall d hd2
        exact ⟨rm_EC_new hd2 a3 a1, rm_EY_new hd2 a3 a2, a3⟩
      · exact nm_r (e' := nI (M + 1)) (nI_1 M) H
    | succ d ih =>
      intro k hk
      have h5 := ih (k + 1) (by omega)
      have e1 := rm_wfS tx U k (fun k => cp (20 * r + (x + k)))
      have e2 := rm_wfS sr U k (fun _ => nI M)
      have e3 := rm_wfS pu (20 * M) k (fun k => nI (U + k))
      have e4 := rm_wfS wk x k (fun k => nI (U + k))
      rw [wY_makeChange_146]
      refine br_f (nI_ge (by omega) (by omega)) ?_
      simp (disch := omega) only [forall_eq, true_and, rm_vin, nI_clamp, rm_62, rm_20, rm_21, rm_22, rm_p60, rm_p61, rm_p22, rm_p2, nI_1, nI_add, nI_pred, pk_m1, pk_us, rm_uu, e1, e2, e3, e4]
      exact h5
  have k87 : ∀ (d k : Nat), k + d = a - l → wY_makeChange_87 post (nI r) (nI a) (nI x - 1) (nI b) (nI M) (nI U) (nI M) ys (d + 1) (nI (l + k)) tx sr (upd bf M (nI (rm_lst 60 (W.take l)))) (upd bh M (nI (rm_hdd 61 (W.drop a)))) (upd tc M (nI k)) (upd pc M 0) (rm_wf tk (20 * M) k (fun k => nI (rm_g W (l + k)))) pu nd sz fi cs cp hd wk po my := by
    intro d
    induction d with
    | zero =>
      intro k hk
      have e : k = a - l := by omega
      subst e
      have h5 := k146 (b - x) 0 (by omega)
      rw [rm_wf0, rm_wf0, rm_wf0, rm_wf0] at h5
      have e0 : nI x - 1 + 1 = nI x := by grind
      rw [wY_makeChange_87]
      refine br_t (nI_le (by omega) (by omega)) ?_
      rw [e0]
      exact nm_e ⟨_, h5⟩
    | succ d ih =>
      intro k hk
      have h5 := ih (k + 1) (by omega)
      have e1 := rm_wfS tk (20 * M) k (fun k => nI (rm_g W (l + k)))
      have e2 := hf (l + k) (by omega)
      rw [wY_makeChange_87]
      refine br_f (nI_ge (by omega) (by omega)) ?_
      simp (disch := omega) only [forall_eq, true_and, rm_vin, nI_clamp, rm_62, rm_20, rm_21, rm_22, rm_p60, rm_p61, rm_p22, rm_p2, nI_1, nI_add, nI_pred, pk_m1, pk_us, rm_uu, e2, e1]
      exact h5
  have h87 := k87 (a - l) 0 (by omega)
  rw [rm_wf0] at h87
  have d65 : ∀ z0 : Int32, z0 = nI (rm_hdd 61 (W.drop a)) → wY_makeChange_65 post (nI r) (nI l - 1) (nI a) (nI x - 1) (nI b) (nI M) z0 (nI M) (nI U) (nI M) ys tx sr (upd bf M (nI (rm_lst 60 (W.take l)))) bh tc pc tk pu nd sz fi cs cp hd wk po my := by
    intro z0 ez
    subst ez
    have e0 : nI l - 1 + 1 = nI l := by grind
    unfold wY_makeChange_65
    simp (disch := omega) only [forall_eq, true_and, rm_vin, nI_clamp, e0]
    exact ⟨_, h87⟩
  have d32 : ∀ z0 : Int32, z0 = nI (rm_lst 60 (W.take l)) → wY_makeChange_32 post (nI r) (nI l - 1) (nI a) (nI x - 1) (nI b) (nI M) z0 (nI M) (nI U) (nI M) ys tx sr bf bh tc pc tk pu nd sz fi cs cp hd wk po my := by
    intro z0 ez
    subst ez
    unfold wY_makeChange_32
    simp (disch := omega) only [forall_eq, true_and, rm_vin, nI_clamp, rm_62, rm_20, rm_21, rm_22, rm_p60, rm_p61, rm_p22, rm_p2, nI_1, nI_add, nI_pred, pk_m1, hs, nI_leI]
    refine ⟨fun h => d65 61 ?_, fun h => ?_⟩
    · have h6 : a = W.length := by omega
      rw [h6, rm_hdd_end]
      rfl
    · have h6 : a < W.length := by omega
      simp (disch := omega) only [forall_eq, true_and, rm_vin, nI_clamp, rm_62, rm_20, rm_21, rm_22, rm_p60, rm_p61, rm_p22, rm_p2, nI_1, nI_add, nI_pred, pk_m1]
      refine d65 _ ?_
      rw [hf a h6, rm_hdd_drop h6]
  unfold wpY_makeChange
  cases l with
  | zero => exact br_f (by decide) (d32 60 rfl)
  | succ j =>
    have e0 : nI (j + 1) - 1 = nI j := nI_pred j
    rw [e0] at d32 ⊢
    refine br_t (nI_pos' (by omega)) ?_
    rw [rm_20, nI_add, nI_clamp (show 20 * r + j < 2 ^ 31 by omega)]
    refine And.intro (vp_in_nI (by omega) (by decide)) (d32 _ ?_)
    rw [hf j (by omega), rm_lst_takeS (by omega)]
end
end
section
/-! from pair to pair -/
def rm_ns (s t : Nat) : Nat → Nat → List (Nat × Nat) → Nat
  | l, x, [] => if l < s ∨ x < t then 1 else 0
  | l, x, p :: R => (if l < p.1 ∨ x < p.2 then 1 else 0) + rm_ns s t (p.1 + 1) (p.2 + 1) R
def rm_fr (t : Nat) : Nat → List (Nat × Nat) → Nat
  | x, [] => t - x
  | x, p :: R => (p.2 - x) + rm_fr t (p.2 + 1) R
theorem rm_fr_len {s t : Nat} : ∀ (R : List (Nat × Nat)) (i j : Nat), rm_inc s t i j R → j ≤ t → rm_fr t j R + R.length = t - j := by
  intro R
  induction R with
  | nil => intro i j _ _; rfl
  | cons p R ih =>
    intro i j h hj
    obtain ⟨h1, h2, h3, h4, h5⟩ := h
    have h6 := ih _ _ h5 (by omega)
    show (p.2 - j) + rm_fr t (p.2 + 1) R + (R.length + 1) = _
    omega
theorem rm_ns_le {s t : Nat} : ∀ (R : List (Nat × Nat)) (l x : Nat), rm_ns s t l x R ≤ R.length + 1 := by
  intro R
  induction R with
  | nil =>
    intro l x
    show (if l < s ∨ x < t then 1 else 0) ≤ 1
    split <;> omega
  | cons p R ih =>
    intro l x
    have h6 := ih (p.1 + 1) (p.2 + 1)
    show (if l < p.1 ∨ x < p.2 then 1 else 0) + rm_ns s t (p.1 + 1) (p.2 + 1) R ≤ R.length + 1 + 1
    split <;> omega
theorem rm_d1 {a l : Nat} (h : l ≤ a + 1) : nI a - (nI l - 1) = nI (a + 1 - l) := by
  rw [← pk_sub h, ← nI_1]
  grind
section
variable {U M : Nat} {pl pt ys : Int32} {tx sr bf bh pf pc tc tk nd hd nx fl sz cs cp ro mx mt pu fi wk po my : Nat → Int32}
variable {r s t l x a b n f : Nat} {kp : Int32}
theorem rx_mark {post : Int32 → SX → Prop} (hr : r < 3) (hs : sz r = nI s) (hc : cs r = nI t) (hs2 : s ≤ 20) (ht2 : t ≤ 20) (hla : l ≤ a) (has : a ≤ s) (hxb : x ≤ b) (hbt : b ≤ t) (hm : ∀ i', l ≤ i' → i' < a → mt i' = -1) (hab : (a < s ∧ mt a = nI b) ∨ (a = s ∧ b = t))
    (hno : ¬ (l < a ∨ x < b) → wX_stretches_11 post (nI r) kp f (nI n) (nI (a + 1)) (nI (b + 1)) (nI (a + 1)) (nI U) (nI M) pl pt tx sr bf bh pf pc tc tk nd hd nx fl sz cs cp ro mx mt)
    (hyes : (l < a ∨ x < b) → wX_stretches_92 post (wX_stretches_11 post (nI r) kp f) (nI r) kp (nI n) (nI l) (nI x) (nI a) (nI b) (nI U) (nI M) pl pt tx sr bf bh pf pc tc tk nd hd nx fl sz cs cp ro mx mt) :
    wX_stretches_11 post (nI r) kp (a - l + 1 + f) (nI n) (nI l) (nI x) (nI l) (nI U) (nI M) pl pt tx sr bf bh pf pc tc tk nd hd nx fl sz cs cp ro mx mt := by
  have e76 : wX_stretches_76 post (wX_stretches_11 post (nI r) kp f) (nI r) kp (nI n) (nI l) (nI x) (nI a) (nI b) (nI U) (nI M) pl pt tx sr bf bh pf pc tc tk nd hd nx fl sz cs cp ro mx mt := by
    unfold wX_stretches_76
    by_cases h1 : l < a
    · exact br_t (nI_lt h1 (by omega)) (hyes (Or.inl h1))
    · refine br_f (nI_nlt (by omega) (by omega)) ?_
      by_cases h2 : x < b
      · exact br_f (nI_ge h2 (by omega)) (hyes (Or.inr h2))
      · refine br_t (nI_le (by omega) (by omega)) ?_
        have h3 := hno (fun z => by rcases z with z | z; exact h1 z; exact h2 z)
        simp only [wX_stretches_112, forall_eq, nI_1]
        exact h3
  have key : ∀ (d i : Nat), i + d = a → l ≤ i → wX_stretches_11 post (nI r) kp (d + 1 + f) (nI n) (nI l) (nI x) (nI i) (nI U) (nI M) pl pt tx sr bf bh pf pc tc tk nd hd nx fl sz cs cp ro mx mt := by
    intro d
    induction d with
    | zero =>
      intro i hi hli
      have e : i = a := by omega
      subst e
      rw [show 0 + 1 + f = f + 1 from by omega, wX_stretches_11]
      simp (disch := omega) only [nI_clamp, hs, rm_vin, true_and, nI_ltI, nI_eq]
      refine ⟨fun h => absurd h (by omega), fun _ => ⟨fun h => ?_, fun h => ?_⟩⟩
      · unfold wX_stretches_38 wX_stretches_55
        refine br_f rm_i10 (br_f rm_i10 (And.intro (vp_in_nI hr (by decide)) ?_))
        rw [nI_clamp (show r < 2 ^ 31 by omega), hc]
        rcases hab with z | z
        · omega
        · rw [← z.2]; exact e76
      · have hma : mt i = nI b := by
          rcases hab with z | z
          · exact z.2
          · omega
        unfold wX_stretches_38 wX_stretches_55
        rw [nI_clamp (show i < 2 ^ 31 by omega), hma]
        exact br_t (by trivial) (And.intro (vp_in_nI (by omega) (by decide)) (br_f (nI_pos (by omega)) (br_t (by trivial) (And.intro (vp_in_nI (by omega) (by decide)) e76))))
    | succ d ih =>
      intro i hi hli
      have h5 := ih (i + 1) (by omega) (by omega)
      have hmi := hm i hli (by omega)
      rw [show d + 1 + 1 + f = (d + 1 + f) + 1 from by omega, wX_stretches_11]
      simp (disch := omega) only [nI_clamp, hs, rm_vin, true_and, nI_ltI, nI_eq]
      refine ⟨fun h => absurd h (by omega), fun _ => ⟨fun h => absurd h (by omega), fun h => ?_⟩⟩
      unfold wX_stretches_38
      rw [nI_clamp (show i < 2 ^ 31 by omega), hmi]
      refine br_t (by trivial) (And.intro (vp_in_nI (by omega) (by decide)) (br_t (by decide) ?_))
      exact nm_r (nI_1 i) h5
  exact key (a - l) l (by omega) (Nat.le_refl _)
theorem ry_mark {post : Int32 → SY → Prop} (hr : r < 3) (hs : sz r = nI s) (hc : cs r = nI t) (hs2 : s ≤ 20) (ht2 : t ≤ 20) (hla : l ≤ a) (has : a ≤ s) (hxb : x ≤ b) (hbt : b ≤ t) (hm : ∀ j', x ≤ j' → j' < b → po j' = -1) (hab : (b < t ∧ po b = nI a) ∨ (a = s ∧ b = t))
    (hno : ¬ (l < a ∨ x < b) → wY_stretches_94 post (wY_stretches_11 post (nI r) kp f) (nI r) kp (nI n) (nI b) (nI a) (nI U) (nI M) ys tx sr bf bh tc pc tk pu nd sz fi cs cp hd wk po my)
    (hyes : (l < a ∨ x < b) → wY_stretches_74 post (wY_stretches_11 post (nI r) kp f) (nI r) kp (nI n) (nI l - 1) (nI x - 1) (nI b) (nI a) (nI U) (nI M) ys tx sr bf bh tc pc tk pu nd sz fi cs cp hd wk po my) :
    wY_stretches_11 post (nI r) kp (b - x + 1 + f) (nI n) (nI l - 1) (nI x - 1) (nI x) (nI U) (nI M) ys tx sr bf bh tc pc tk pu nd sz fi cs cp hd wk po my := by
  have e49 : wY_stretches_49 post (wY_stretches_11 post (nI r) kp f) (nI r) kp (nI n) (nI l - 1) (nI x - 1) (nI b) (nI a) (nI U) (nI M) ys tx sr bf bh tc pc tk pu nd sz fi cs cp hd wk po my := by
    unfold wY_stretches_49
    rw [rm_d1 (show l ≤ a + 1 by omega), rm_d1 (show x ≤ b + 1 by omega)]
    refine br_f (nI_pos (by omega)) ?_
    by_cases h1 : l < a
    · exact br_t (nI_lt (a := 1) (by omega) (by omega)) (hyes (Or.inl h1))
    · refine br_f (nI_nlt (b := a + 1 - l) (a := 1) (by omega) (by decide)) ?_
      by_cases h2 : x < b
      · exact br_f (nI_ge (a := 1) (by omega) (by omega)) (hyes (Or.inr h2))
      · exact br_t (nI_le (b := 1) (by omega) (by decide)) (hno (fun z => by rcases z with z | z; exact h1 z; exact h2 z))
  have key : ∀ (d j : Nat), j + d = b → x ≤ j → wY_stretches_11 post (nI r) kp (d + 1 + f) (nI n) (nI l - 1) (nI x - 1) (nI j) (nI U) (nI M) ys tx sr bf bh tc pc tk pu nd sz fi cs cp hd wk po my := by
    intro d
    induction d with
    | zero =>
      intro j hj hxj
      have e : j = b := by omega
      subst e
      rw [show 0 + 1 + f = f + 1 from by omega, wY_stretches_11]
      simp (disch := omega) only [nI_clamp, hs, hc, rm_vin, true_and, nI_ltI, nI_leI]
      refine ⟨fun h => absurd h (by omega), fun _ => ⟨fun h => ?_, fun h => ?_⟩⟩
      · rcases hab with z | z
        · omega
        · rw [← z.1]; exact e49
      · have hma : po j = nI a := by
          rcases hab with z | z
          · exact z.2
          · omega
        rw [hma]
        exact e49
    | succ d ih =>
      intro j hj hxj
      have h5 := ih (j + 1) (by omega) (by omega)
      have hmj := hm j hxj (by omega)
      rw [show d + 1 + 1 + f = (d + 1 + f) + 1 from by omega, wY_stretches_11]
      simp (disch := omega) only [nI_clamp, hs, hc, rm_vin, true_and, nI_ltI, nI_leI, hmj]
      refine ⟨fun h => absurd h (by omega), fun _ => ⟨fun h => absurd h (by omega), fun h => ?_⟩⟩
      unfold wY_stretches_49
      refine br_t (by decide) ?_
      exact nm_r (nI_1 j) h5
  exact key (b - x) x (by omega) (Nat.le_refl _)
theorem rx_end {post : Int32 → SX → Prop} (hr : r < 3) (hs : sz r = nI s) (hs2 : s ≤ 20) (v1 v2 : Int32) (H : post (nI n) (nI U, nI M, pl, pt, tx, sr, bf, bh, pf, pc, tc, tk, nd, hd, nx, fl, sz, cs, cp, ro, mx, mt)) : wX_stretches_11 post (nI r) kp (0 + 1) (nI n) v1 v2 (nI (s + 1)) (nI U) (nI M) pl pt tx sr bf bh pf pc tc tk nd hd nx fl sz cs cp ro mx mt := by
  rw [wX_stretches_11]
  simp (disch := omega) only [nI_clamp, hs, rm_vin, true_and, nI_ltI]
  exact ⟨fun _ => H, fun h => absurd h (by omega)⟩
theorem ry_end {post : Int32 → SY → Prop} (hr : r < 3) (hc : cs r = nI t) (ht2 : t ≤ 20) (v1 v2 : Int32) (H : post (nI n) (nI U, nI M, ys, tx, sr, bf, bh, tc, pc, tk, pu, nd, sz, fi, cs, cp, hd, wk, po, my)) : wY_stretches_11 post (nI r) kp (0 + 1) (nI n) v1 v2 (nI (t + 1)) (nI U) (nI M) ys tx sr bf bh tc pc tk pu nd sz fi cs cp hd wk po my := by
  rw [wY_stretches_11]
  simp (disch := omega) only [nI_clamp, hc, rm_vin, true_and, nI_ltI]
  exact ⟨fun _ => H, fun h => absurd h (by omega)⟩
theorem rx_str0 {post : Int32 → SX → Prop} (hr : r < 3) (hs : sz r = nI s) (hc : cs r = nI t) (hs2 : s ≤ 20) (ht2 : t ≤ 20) : ∀ (R : List (Nat × Nat)) (l x n : Nat), rm_inc s t l x R → l ≤ s → x ≤ t → rm_ma s mt l R → post (nI (n + rm_ns s t l x R)) (nI U, nI M, pl, pt, tx, sr, bf, bh, pf, pc, tc, tk, nd, hd, nx, fl, sz, cs, cp, ro, mx, mt) → wX_stretches_11 post (nI r) 0 (s + 2 - l) (nI n) (nI l) (nI x) (nI l) (nI U) (nI M) pl pt tx sr bf bh pf pc tc tk nd hd nx fl sz cs cp ro mx mt := by
  intro R
  induction R with
  | nil =>
    intro l x n _ hl hx hm H
    rw [show s + 2 - l = s - l + 1 + (0 + 1) from by omega]
    refine rx_mark hr hs hc hs2 ht2 hl (Nat.le_refl _) hx (Nat.le_refl _) (fun i' h1 h2 => hm i' h1 h2) (Or.inr ⟨rfl, rfl⟩) (fun h => ?_) (fun h => ?_)
    · have e : rm_ns s t l x [] = 0 := if_neg h
      rw [e] at H
      exact rx_end hr hs hs2 _ _ H
    · have e : rm_ns s t l x [] = 1 := if_pos h
      rw [e] at H
      unfold wX_stretches_92
      refine br_t (by trivial) ?_
      simp only [wX_stretches_109, wX_stretches_112, forall_eq, nI_1]
      exact rx_end hr hs hs2 _ _ H
  | cons p R ih =>
    intro l x n hi hl hx hm H
    obtain ⟨i1, i2, i3, i4, i5⟩ := hi
    obtain ⟨m1, m2, m3⟩ := hm
    rw [show s + 2 - l = p.1 - l + 1 + (s + 2 - (p.1 + 1)) from by omega]
    have H' : post (nI (n + ((if l < p.1 ∨ x < p.2 then 1 else 0) + rm_ns s t (p.1 + 1) (p.2 + 1) R))) (nI U, nI M, pl, pt, tx, sr, bf, bh, pf, pc, tc, tk, nd, hd, nx, fl, sz, cs, cp, ro, mx, mt) := H
    refine rx_mark hr hs hc hs2 ht2 i1 (by omega) i3 (by omega) m1 (Or.inl ⟨i2, m2⟩) (fun h => ?_) (fun h => ?_)
    · rw [if_neg h, Nat.zero_add] at H'
      exact ih (p.1 + 1) (p.2 + 1) n i5 (by omega) (by omega) m3 H'
    · rw [if_pos h, ← Nat.add_assoc] at H'
      unfold wX_stretches_92
      refine br_t (by trivial) ?_
      simp only [wX_stretches_109, wX_stretches_112, forall_eq, nI_1]
      exact ih (p.1 + 1) (p.2 + 1) (n + 1) i5 (by omega) (by omega) m3 H'
theorem ry_str0 {post : Int32 → SY → Prop} (hr : r < 3) (hs : sz r = nI s) (hc : cs r = nI t) (hs2 : s ≤ 20) (ht2 : t ≤ 20) : ∀ (R : List (Nat × Nat)) (l x n : Nat), rm_inc s t l x R → l ≤ s → x ≤ t → rm_pa t po x R → post (nI (n + rm_ns s t l x R)) (nI U, nI M, ys, tx, sr, bf, bh, tc, pc, tk, pu, nd, sz, fi, cs, cp, hd, wk, po, my) → wY_stretches_11 post (nI r) 0 (t + 2 - x) (nI n) (nI l - 1) (nI x - 1) (nI x) (nI U) (nI M) ys tx sr bf bh tc pc tk pu nd sz fi cs cp hd wk po my := by
  intro R
  induction R with
  | nil =>
    intro l x n _ hl hx hm H
    rw [show t + 2 - x = t - x + 1 + (0 + 1) from by omega]
    refine ry_mark hr hs hc hs2 ht2 hl (Nat.le_refl _) hx (Nat.le_refl _) (fun i' h1 h2 => hm i' h1 h2) (Or.inr ⟨rfl, rfl⟩) (fun h => ?_) (fun h => ?_)
    · have e : rm_ns s t l x [] = 0 := if_neg h
      rw [e] at H
      unfold wY_stretches_94
      exact br_t (by trivial) (nm_r (nI_1 t) (ry_end hr hc ht2 _ _ H))
    · have e : rm_ns s t l x [] = 1 := if_pos h
      rw [e] at H
      unfold wY_stretches_74 wY_stretches_94
      exact nm_r (nI_1 n) (br_t (by trivial) (br_t (by trivial) (nm_r (nI_1 t) (ry_end hr hc ht2 _ _ H))))
  | cons p R ih =>
    intro l x n hi hl hx hm H
    obtain ⟨i1, i2, i3, i4, i5⟩ := hi
    obtain ⟨m1, m2, m3⟩ := hm
    rw [show t + 2 - x = p.2 - x + 1 + (t + 2 - (p.2 + 1)) from by omega]
    have H' : post (nI (n + ((if l < p.1 ∨ x < p.2 then 1 else 0) + rm_ns s t (p.1 + 1) (p.2 + 1) R))) (nI U, nI M, ys, tx, sr, bf, bh, tc, pc, tk, pu, nd, sz, fi, cs, cp, hd, wk, po, my) := H
    refine ry_mark hr hs hc hs2 ht2 i1 (by omega) i3 (by omega) m1 (Or.inl ⟨i4, m2⟩) (fun h => ?_) (fun h => ?_)
    · rw [if_neg h, Nat.zero_add] at H'
      have h6 := ih (p.1 + 1) (p.2 + 1) n i5 (by omega) (by omega) m3 H'
      rw [nI_pred, nI_pred] at h6
      unfold wY_stretches_94
      exact br_t (by trivial) (nm_r (nI_1 p.2) h6)
    · rw [if_pos h, ← Nat.add_assoc] at H'
      have h6 := ih (p.1 + 1) (p.2 + 1) (n + 1) i5 (by omega) (by omega) m3 H'
      rw [nI_pred, nI_pred] at h6
      unfold wY_stretches_74 wY_stretches_94
      exact nm_r (nI_1 n) (br_t (by trivial) (br_t (by trivial) (nm_r (nI_1 p.2) h6)))
end
end
section
/-! the stretches become changes: what holds between, and both sides at once -/
theorem rm_split3 {W : List Nat} {l a : Nat} (h : l ≤ a) : W = W.take l ++ ((W.drop l).take (a - l) ++ W.drop a) := by
  have h2 := List.take_append_drop (a - l) (W.drop l)
  rw [List.drop_drop, show l + (a - l) = a from by omega] at h2
  rw [h2, List.take_append_drop]
theorem rm_splitD {W : List Nat} {l a : Nat} (h : l ≤ a) : W.drop l = (W.drop l).take (a - l) ++ W.drop a := by
  have h2 := List.take_append_drop (a - l) (W.drop l)
  rw [List.drop_drop, show l + (a - l) = a from by omega] at h2
  exact h2.symm
def rm_SI (M0 r : Nat) (F : Nat → List Nat) (hd : Nat → Int32) (U M : Nat) (bf bh pf pc tc tk nd pu wk : Nat → Int32) (CH : Nat → rm_Ch) (l x : Nat) (V : List Nat) : Prop :=
  rm_CI U M CH nd ∧ (∀ c, c < M → rm_EC (CH c) bf bh pf pc tc tk c ∧ rm_EY (CH c) pu c) ∧ (∀ q, q < 3 → rm_RI M CH nd (F q) (hd q)) ∧ (∀ c, M0 ≤ c → c < M → ∀ d, bt (nd c) d = true → bt (hd r) d = true) ∧ M0 ≤ M ∧ V.length = x ∧ (∀ j, j < x → wk j = nI (rm_g V j)) ∧ rm_Stp CH M0 (F r) (M - M0) (V ++ (F r).drop l)
section
variable {U M : Nat} {pl pt ys : Int32} {tx sr bf bh pf pc tc tk nd hd nx fl sz cs cp ro mx mt pu fi wk po my : Nat → Int32}
variable {r l a x b M0 : Nat} {W V : List Nat} {F : Nat → List Nat} {CH : Nat → rm_Ch}
theorem rm_SI_new (hr : r < 3) (hW : F r = W) (hM : M < 16) (hU : U + (b - x) ≤ 60) (hla : l ≤ a) (haw : a ≤ W.length) (hl : W.length ≤ 20) (hxb : x ≤ b) (hb : b ≤ 20) (hB : rm_lst 60 V = rm_lst 60 (W.take l)) (h : rm_SI M0 r F hd U M bf bh pf pc tc tk nd pu wk CH l x V) :
    rm_SI M0 r F hd (U + (b - x)) (M + 1) (upd bf M (nI (rm_lst 60 (W.take l)))) (upd bh M (nI (rm_hdd 61 (W.drop a)))) (upd pf M (nI U)) (upd pc M (nI (b - x))) (upd tc M (nI (a - l))) (rm_wf tk (20 * M) (a - l) (fun k => nI (rm_g W (l + k)))) (upd nd M (rm_need CH nd (hd r) M (rm_lst 60 (W.take l)) ((W.drop l).take (a - l) ++ [rm_hdd 61 (W.drop a)]))) (rm_wf pu (20 * M) (b - x) (fun k => nI (U + k))) (rm_wf wk x (b - x) (fun k => nI (U + k))) (rm_up CH M (rm_lst 60 (W.take l), rm_hdd 61 (W.drop a), U, b - x, (W.drop l).take (a - l))) a b (V ++ List.range' U (b - x)) := by
  obtain ⟨c1, c2, c3, c4, c5, c6, c7, c8⟩ := h
  have hRr := c3 r hr
  rw [hW, rm_split3 (W := W) hla] at hRr
  have e1 : ∀ c, c < M → rm_up CH M (rm_lst 60 (W.take l), rm_hdd 61 (W.drop a), U, b - x, (W.drop l).take (a - l)) c = CH c := fun c hc => rm_up_n (by omega)
  have e2 : ∀ c, c < M → upd nd M (rm_need CH nd (hd r) M (rm_lst 60 (W.take l)) ((W.drop l).take (a - l) ++ [rm_hdd 61 (W.drop a)])) c = nd c := fun c hc => pk_un (by omega)
  refine ⟨?_, ?_, ?_, ?_, by omega, ?_, ?_, ?_⟩
  · exact rm_record c1 (by omega) hM hRr (by omega) (by rw [rm_T_len haw]; omega)
  · intro c hc
    by_cases hcM : c < M
    · obtain ⟨f1, f2⟩ := c2 c hcM
      have hbc := rm_BC_of c1 (by omega) hcM
      rw [e1 c hcM]
      exact ⟨rm_EC_new hcM hbc f1, rm_EY_new hcM hbc f2⟩
    · have : c = M := by omega
      subst this
      rw [rm_up_s]
      refine ⟨rm_EC_M haw, fun k hk => ?_⟩
      exact rm_wf_i hk
  · intro q hq
    exact rm_RI_congr (by omega) e1 e2 (c3 q hq)
  · intro c hc1 hc2 d hd2
    by_cases hcM : c < M
    · rw [e2 c hcM] at hd2
      exact c4 c hc1 hcM d hd2
    · have : c = M := by omega
      subst this
      rw [pk_us] at hd2
      exact rm_need_held (by omega) hRr _ _ d hd2
  · rw [List.length_append, List.length_range', c6]
    omega
  · intro j hj
    by_cases hjx : j < x
    · rw [rm_wf_o (by omega), rm_g_l (by omega)]
      exact c7 j hjx
    · rw [rm_g_r (by omega), rm_g_range' _ _ _ (by omega)]
      have := rm_wf_i (a := wk) (b := x) (n := b - x) (f := fun k => nI (U + k)) (k := j - x) (by omega)
      rw [show x + (j - x) = j from by omega] at this
      rw [this, c6]
  · rw [show M + 1 - M0 = (M - M0) + 1 from by omega]
    refine ⟨V ++ (F r).drop l, rm_Stp_congr _ _ (fun c hc => e1 c (by omega)) c8, ?_⟩
    rw [show M0 + (M - M0) = M from by omega, rm_up_s, hW]
    refine ⟨V, W.drop a, hB, rfl, ?_, ?_⟩
    · exact congrArg (fun z => V ++ z) (rm_splitD (W := W) hla)
    · rw [List.append_assoc]
      rfl
theorem rm_SI_mark (hW : F r = W) (haw : a < W.length) (h : rm_SI M0 r F hd U M bf bh pf pc tc tk nd pu wk CH a b V) : rm_SI M0 r F hd U M bf bh pf pc tc tk nd pu (upd wk b (nI (rm_g W a))) CH (a + 1) (b + 1) (V ++ [rm_g W a]) := by
  obtain ⟨c1, c2, c3, c4, c5, c6, c7, c8⟩ := h
  refine ⟨c1, c2, c3, c4, c5, by simp [c6], ?_, ?_⟩
  · intro j hj
    by_cases e : j = b
    · subst e
      rw [pk_us, rm_g_r (by omega), c6, Nat.sub_self]
      rfl
    · rw [pk_un e, rm_g_l (by omega)]
      exact c7 j (by omega)
  · rw [hW] at c8 ⊢
    rw [rm_drop_cons haw] at c8
    rw [List.append_assoc]
    exact c8
theorem rm_lst_mark {V : List Nat} (haw : a < W.length) : rm_lst 60 (V ++ [rm_g W a]) = rm_lst 60 (W.take (a + 1)) := by
  rw [rm_lst_snoc, rm_lst_takeS haw]
theorem rm_str {t : Nat} (hr : r < 3) (hW : F r = W) (hl : W.length ≤ 20) (hs : sz r = nI W.length) (hc : cs r = nI t) (ht2 : t ≤ 20) (hro : ∀ k, k < W.length → ro k = nI (rm_g W k)) (hf : ∀ k, k < W.length → fi (20 * r + k) = nI (rm_g W k)) :
    ∀ (R : List (Nat × Nat)) (l x n U M : Nat) (tx sr bf bh pf pc tc tk nd pu wk : Nat → Int32) (CH : Nat → rm_Ch) (V : List Nat), rm_inc W.length t l x R → l ≤ W.length → x ≤ t → rm_ma W.length mt l R → U + rm_fr t x R ≤ 60 → M + rm_ns W.length t l x R ≤ 16 → rm_lst 60 V = rm_lst 60 (W.take l) → rm_SI M0 r F hd U M bf bh pf pc tc tk nd pu wk CH l x V →
    ∃ (U' M' : Nat) (tx' sr' bf' bh' pf' pc' tc' tk' nd' pu' wk' : Nat → Int32) (CH' : Nat → rm_Ch) (V' : List Nat), U' ≤ 60 ∧ M' ≤ 16 ∧ rm_SI M0 r F hd U' M' bf' bh' pf' pc' tc' tk' nd' pu' wk' CH' W.length t V' ∧
      (∀ post : Int32 → SX → Prop, (∀ n, post (nI n) (nI U', nI M', pl, pt, tx', sr', bf', bh', pf', pc', tc', tk', nd', hd, nx, fl, sz, cs, cp, ro, mx, mt)) → wX_stretches_11 post (nI r) 1 (W.length + 2 - l) (nI n) (nI l) (nI x) (nI l) (nI U) (nI M) pl pt tx sr bf bh pf pc tc tk nd hd nx fl sz cs cp ro mx mt) ∧
      (∀ (po my : Nat → Int32) (ys : Int32), rm_pa t po x R → ∀ post : Int32 → SY → Prop, (∀ n, post (nI n) (nI U', nI M', ys, tx', sr', bf', bh', tc', pc', tk', pu', nd', sz, fi, cs, cp, hd, wk', po, my)) → wY_stretches_11 post (nI r) 1 (t + 2 - x) (nI n) (nI l - 1) (nI x - 1) (nI x) (nI U) (nI M) ys tx sr bf bh tc pc tk pu nd sz fi cs cp hd wk po my) := by
  intro R
  induction R with
  | nil =>
    intro l x n U M tx sr bf bh pf pc tc tk nd pu wk CH V _ hlW hx hm hU hM hB hSI
    have hU' : U + (t - x) ≤ 60 := hU
    have hM' : M + (if l < W.length ∨ x < t then 1 else 0) ≤ 16 := hM
    have hw := rm_W60 hSI.1 (show U ≤ 60 by omega) (hSI.2.2.1 r hr)
    rw [hW] at hw
    have nle : nI t ≤ nI t := nI_le (Nat.le_refl _) (by omega)
    by_cases h : l < W.length ∨ x < t
    · rw [if_pos h] at hM'
      have hall : ∀ d, d < M → rm_EC (CH d) bf bh pf pc tc tk d ∧ rm_EY (CH d) pu d ∧ rm_BC (CH d) ∧ rm_cB (CH d) ∉ rm_cP (CH d) := fun d hd2 => ⟨(hSI.2.1 d hd2).1, (hSI.2.1 d hd2).2, rm_BC_of hSI.1 (by omega) hd2, rm_BP_of hSI.1 (by omega) hd2⟩
      have hS2 := rm_SI_new (a := W.length) (b := t) hr hW (by omega) hU' hlW (Nat.le_refl _) hl hx ht2 hB hSI
      refine ⟨_, _, rm_wf tx U (t - x) (fun k => cp (20 * r + (x + k))), rm_wf sr U (t - x) (fun _ => nI M), _, _, _, _, _, _, _, _, _, _, _, hU', by omega, hS2, fun post hP => ?_, fun po my ys hp post hP => ?_⟩
      · rw [show W.length + 2 - l = W.length - l + 1 + (0 + 1) from by omega]
        refine rx_mark hr hs hc hl ht2 hlW (Nat.le_refl _) hx (Nat.le_refl _) (fun i' h1 h2 => hm i' h1 h2) (Or.inr ⟨rfl, rfl⟩) (fun z => absurd h z) (fun _ => ?_)
        unfold wX_stretches_92
        refine br_f rm_i10 (rx_describe (CH := CH) (W := W) hr (by omega) hU' hlW (Nat.le_refl _) hl hx ht2 hs hro hw (fun d hd2 => (hSI.2.2.1 r hr).2.1 d hd2) (fun d hd2 => ⟨(hall d hd2).1, (hall d hd2).2.2⟩) ?_)
        simp only [wX_stretches_109, wX_stretches_112, forall_eq, nI_1]
        exact rx_end hr hs hl _ _ (hP _)
      · rw [show t + 2 - x = t - x + 1 + (0 + 1) from by omega]
        refine ry_mark hr hs hc hl ht2 hlW (Nat.le_refl _) hx (Nat.le_refl _) (fun i' h1 h2 => hp i' h1 h2) (Or.inr ⟨rfl, rfl⟩) (fun z => absurd h z) (fun _ => ?_)
        unfold wY_stretches_74
        refine nm_r (e' := nI (n + 1)) (nI_1 n) (br_f rm_i10 (ry_makeChange (CH := CH) (W := W) (pf := pf) hr (by omega) hU' hlW (Nat.le_refl _) hl hx ht2 hs hf hw (fun d hd2 => ⟨(hall d hd2).1, (hall d hd2).2.1, (hall d hd2).2.2.1⟩) ?_))
        unfold wY_stretches_94
        refine br_f rm_i10 (And.intro (vp_in_nI hr (by decide)) ?_)
        rw [nI_clamp (show r < 2 ^ 31 by omega), hc]
        exact br_t nle (nm_r (nI_1 t) (ry_end hr hc ht2 _ _ (hP _)))
    · rw [if_neg h] at hM'
      have el : l = W.length := by omega
      have ex : x = t := by omega
      subst el ex
      refine ⟨U, M, tx, sr, bf, bh, pf, pc, tc, tk, nd, pu, wk, CH, V, by omega, by omega, hSI, fun post hP => ?_, fun po my ys hp post hP => ?_⟩
      · rw [show W.length + 2 - W.length = W.length - W.length + 1 + (0 + 1) from by omega]
        exact rx_mark hr hs hc hl ht2 (Nat.le_refl _) (Nat.le_refl _) (Nat.le_refl _) (Nat.le_refl _) (fun i' h1 h2 => hm i' h1 h2) (Or.inr ⟨rfl, rfl⟩) (fun _ => rx_end hr hs hl _ _ (hP _)) (fun z => absurd z h)
      · rw [show x + 2 - x = x - x + 1 + (0 + 1) from by omega]
        refine ry_mark hr hs hc hl ht2 (Nat.le_refl _) (Nat.le_refl _) (Nat.le_refl _) (Nat.le_refl _) (fun i' h1 h2 => hp i' h1 h2) (Or.inr ⟨rfl, rfl⟩) (fun _ => ?_) (fun z => absurd z h)
        unfold wY_stretches_94
        refine br_f rm_i10 (And.intro (vp_in_nI hr (by decide)) ?_)
        rw [nI_clamp (show r < 2 ^ 31 by omega), hc]
        exact br_t nle (nm_r (nI_1 x) (ry_end hr hc ht2 _ _ (hP _)))
  | cons p R ih =>
    intro l x n U M tx sr bf bh pf pc tc tk nd pu wk CH V hi hlW hx hm hU hM hB hSI
    obtain ⟨a, b⟩ := p
    obtain ⟨i1, i2, i3, i4, i5⟩ := hi
    obtain ⟨m1, m2, m3⟩ := hm
    have hU' : U + ((b - x) + rm_fr t (b + 1) R) ≤ 60 := hU
    have hM' : M + ((if l < a ∨ x < b then 1 else 0) + rm_ns W.length t (a + 1) (b + 1) R) ≤ 16 := hM
    dsimp only at i1 i2 i3 i4 i5 m1 m2 m3
    have hw := rm_W60 hSI.1 (show U ≤ 60 by omega) (hSI.2.2.1 r hr)
    rw [hW] at hw
    have ng : ¬ nI t ≤ nI b := nI_ge i4 (by omega)
    by_cases h : l < a ∨ x < b
    · rw [if_pos h] at hM'
      have hall : ∀ d, d < M → rm_EC (CH d) bf bh pf pc tc tk d ∧ rm_EY (CH d) pu d ∧ rm_BC (CH d) ∧ rm_cB (CH d) ∉ rm_cP (CH d) := fun d hd2 => ⟨(hSI.2.1 d hd2).1, (hSI.2.1 d hd2).2, rm_BC_of hSI.1 (by omega) hd2, rm_BP_of hSI.1 (by omega) hd2⟩
      have hS2 := rm_SI_new (a := a) (b := b) hr hW (by omega) (by omega) i1 (by omega) hl i3 (by omega) hB hSI
      have hS3 := rm_SI_mark hW i2 hS2
      obtain ⟨U', M', tx', sr', bf', bh', pf', pc', tc', tk', nd', pu', wk', CH', V', q1, q2, q3, q4, q5⟩ := ih (a + 1) (b + 1) (n + 1) _ _ (rm_wf tx U (b - x) (fun k => cp (20 * r + (x + k)))) (rm_wf sr U (b - x) (fun _ => nI M)) _ _ _ _ _ _ _ _ _ _ _ i5 (by omega) (by omega) m3 (by omega) (by omega) (rm_lst_mark i2) hS3
      refine ⟨U', M', tx', sr', bf', bh', pf', pc', tc', tk', nd', pu', wk', CH', V', q1, q2, q3, fun post hP => ?_, fun po my ys hp post hP => ?_⟩
      · have h6 := q4 post hP
        rw [show W.length + 2 - l = a - l + 1 + (W.length + 2 - (a + 1)) from by omega]
        refine rx_mark hr hs hc hl ht2 i1 (by omega) i3 (by omega) m1 (Or.inl ⟨i2, m2⟩) (fun z => absurd h z) (fun _ => ?_)
        unfold wX_stretches_92
        refine br_f rm_i10 (rx_describe (CH := CH) (W := W) hr (by omega) (by omega) i1 (by omega) hl i3 (by omega) hs hro hw (fun d hd2 => (hSI.2.2.1 r hr).2.1 d hd2) (fun d hd2 => ⟨(hall d hd2).1, (hall d hd2).2.2⟩) ?_)
        simp only [wX_stretches_109, wX_stretches_112, forall_eq, nI_1]
        exact h6
      · obtain ⟨p1, p2, p3⟩ := hp
        dsimp only at p1 p2 p3
        have h6 := q5 po my ys p3 post hP
        rw [nI_pred, nI_pred] at h6
        rw [show t + 2 - x = b - x + 1 + (t + 2 - (b + 1)) from by omega]
        refine ry_mark hr hs hc hl ht2 i1 (by omega) i3 (by omega) p1 (Or.inl ⟨i4, p2⟩) (fun z => absurd h z) (fun _ => ?_)
        unfold wY_stretches_74
        refine nm_r (e' := nI (n + 1)) (nI_1 n) (br_f rm_i10 (ry_makeChange (CH := CH) (W := W) (pf := pf) hr (by omega) (by omega) i1 (by omega) hl i3 (by omega) hs hf hw (fun d hd2 => ⟨(hall d hd2).1, (hall d hd2).2.1, (hall d hd2).2.2.1⟩) ?_))
        unfold wY_stretches_94
        refine br_f rm_i10 (And.intro (vp_in_nI hr (by decide)) ?_)
        rw [nI_clamp (show r < 2 ^ 31 by omega), hc]
        refine br_f ng ?_
        simp (disch := omega) only [forall_eq, true_and, rm_vin, nI_clamp, rm_62, rm_20, rm_21, rm_22, rm_p60, rm_p61, rm_p22, rm_p2, nI_1, nI_add, nI_pred, pk_m1, hf a i2]
        exact h6
    · rw [if_neg h] at hM'
      have el : l = a := by omega
      have ex : x = b := by omega
      subst el ex
      have hS3 := rm_SI_mark hW i2 hSI
      obtain ⟨U', M', tx', sr', bf', bh', pf', pc', tc', tk', nd', pu', wk', CH', V', q1, q2, q3, q4, q5⟩ := ih (l + 1) (x + 1) n U M tx sr _ _ _ _ _ _ _ _ _ _ _ i5 (by omega) (by omega) m3 (by omega) (by omega) (rm_lst_mark i2) hS3
      refine ⟨U', M', tx', sr', bf', bh', pf', pc', tc', tk', nd', pu', wk', CH', V', q1, q2, q3, fun post hP => ?_, fun po my ys hp post hP => ?_⟩
      · have h6 := q4 post hP
        rw [show W.length + 2 - l = l - l + 1 + (W.length + 2 - (l + 1)) from by omega]
        exact rx_mark hr hs hc hl ht2 i1 (by omega) i3 (by omega) m1 (Or.inl ⟨i2, m2⟩) (fun _ => h6) (fun z => absurd z h)
      · obtain ⟨p1, p2, p3⟩ := hp
        dsimp only at p1 p2 p3
        have h6 := q5 po my ys p3 post hP
        rw [nI_pred, nI_pred] at h6
        rw [show t + 2 - x = x - x + 1 + (t + 2 - (x + 1)) from by omega]
        refine ry_mark hr hs hc hl ht2 i1 (by omega) i3 (by omega) p1 (Or.inl ⟨i4, p2⟩) (fun _ => ?_) (fun z => absurd z h)
        unfold wY_stretches_94
        refine br_f rm_i10 (And.intro (vp_in_nI hr (by decide)) ?_)
        rw [nI_clamp (show r < 2 ^ 31 by omega), hc]
        refine br_f ng ?_
        simp (disch := omega) only [forall_eq, true_and, rm_vin, nI_clamp, rm_62, rm_20, rm_21, rm_22, rm_p60, rm_p61, rm_p22, rm_p2, nI_1, nI_add, nI_pred, pk_m1, hf l i2]
        exact h6
end
end
section
/-! commit -/
section
variable {U M : Nat} {pl pt ys : Int32} {tx sr bf bh pf pc tc tk nd hd nx fl sz cs cp ro mx mt pu fi wk po my : Nat → Int32}
variable {r M0 K : Nat} {W : List Nat} {F : Nat → List Nat} {CH : Nat → rm_Ch}
theorem rx_mkloop {post : Int32 → SX → Prop} {v : Int32} (hr : r < 3) (hU : U ≤ 60) (hM : M ≤ 16) (hK : M0 + K = M) (hC : rm_CI U M CH nd) (hE : ∀ c, c < M → rm_EC (CH c) bf bh pf pc tc tk c) (hR : rm_RI M CH nd W (hd r)) (hh : ∀ c, bt (hd r) c = true → c < M0) (hN : ∀ c, M0 ≤ c → c < M → ∀ d, bt (nd c) d = true → bt (hd r) d = true) (hs : sz r = nI W.length) (hX : rm_XR r W nx fl) :
    ∀ (k : Nat) (L : List Nat), k ≤ K → rm_Stp CH M0 W k L → (∀ nx2 fl2 : Nat → Int32, rm_XR r L nx2 fl2 → rm_Ot r nx fl nx2 fl2 → wX_commit_80 post (nI r) v (K - k + 1) (nI (M0 + k)) (nI U) (nI M) pl pt tx sr bf bh pf pc tc tk nd (upd hd r (rm_hk (hd r) M0 k)) nx2 fl2 (upd sz r (nI L.length)) cs cp ro mx mt) → wX_commit_80 post (nI r) v (K + 1) (nI M0) (nI U) (nI M) pl pt tx sr bf bh pf pc tc tk nd hd nx fl sz cs cp ro mx mt := by
  intro k
  induction k with
  | zero =>
    intro L _ hS hP
    have e : L = W := hS
    subst e
    have h5 := hP nx fl hX (fun q _ _ L _ => ⟨rfl, rfl⟩)
    have e1 : upd hd r (rm_hk (hd r) M0 0) = hd := rm_ui hd r
    have e2 : upd sz r (nI L.length) = sz := rm_ue hs
    rw [e1, e2] at h5
    exact h5
  | succ k ih =>
    intro L hk hS hP
    have hRI2 := rm_Stp_RI hC hM hR hh hN (k + 1) L (by omega) hS
    obtain ⟨L', hS1, w1, w2, d1, d2, d3, d4⟩ := hS
    have hRI1 := rm_Stp_RI hC hM hR hh hN k L' (by omega) hS1
    have hff1 := rm_WFF hC hU hRI1
    have hff2 := rm_WFF hC hU hRI2
    subst d3 d4
    have hcM : M0 + k < M := by omega
    have hx := rm_BC_of hC hU hcM
    have l1 : (w1 ++ (rm_cT (CH (M0 + k)) ++ w2)).length = w1.length + (rm_cT (CH (M0 + k))).length + w2.length := by rw [List.length_append, List.length_append]; omega
    have l2 : (w1 ++ (rm_cP (CH (M0 + k)) ++ w2)).length = w1.length + rm_cN (CH (M0 + k)) + w2.length := by rw [List.length_append, List.length_append, rm_lP]; omega
    refine ih _ (by omega) hS1 (fun nx2 fl2 hX2 hO2 => ?_)
    have h5 := hP _ _ (rm_relink hX2 hff1 hff2 d1 d2) (rm_Ot_step hO2 hx.1 hx.2.2.1 (rm_PltB hx))
    rw [l2] at h5
    rw [show K - k + 1 = (K - (k + 1) + 1) + 1 from by omega, wX_commit_80, l1]
    refine br_f (nI_ge hcM (by omega)) (rx_makeChange hr (by omega) (hE _ hcM) hx ?_)
    simp only [pk_us, rm_uu, rm_szE, forall_eq, nI_1]
    exact h5
theorem ry_mkloop {post : Int32 → SY → Prop} {v : Int32} (hr : r < 3) (hM : M ≤ 16) (hK : M0 + K = M) (H : post v (nI U, nI M, ys, tx, sr, bf, bh, tc, pc, tk, pu, nd, sz, fi, cs, cp, upd hd r (rm_hk (hd r) M0 K), wk, po, my)) : ∃ n, wY_commit_90 post (nI r) v (nI U) (nI M) ys n (nI M0) tx sr bf bh tc pc tk pu nd sz fi cs cp hd wk po my := by
  have key : ∀ (d k : Nat), k + d = K → wY_commit_90 post (nI r) v (nI U) (nI M) ys (d + 1) (nI (M0 + k)) tx sr bf bh tc pc tk pu nd sz fi cs cp (upd hd r (rm_hk (hd r) M0 k)) wk po my := by
    intro d
    induction d with
    | zero =>
      intro k hk
      have e : k = K := by omega
      subst e
      rw [wY_commit_90]
      exact br_t (nI_le (by omega) (by omega)) H
    | succ d ih =>
      intro k hk
      have h5 := ih (k + 1) (by omega)
      rw [wY_commit_90]
      refine br_f (nI_ge (by omega) (by omega)) ?_
      simp (disch := omega) only [forall_eq, true_and, rm_vin, nI_clamp, rm_62, rm_20, rm_21, rm_22, rm_p60, rm_p61, rm_p22, rm_p2, nI_1, nI_add, nI_pred, pk_m1, pk_us, rm_uu]
      exact h5
  have h0 := key K 0 (by omega)
  have e1 : upd hd r (rm_hk (hd r) M0 0) = hd := rm_ui hd r
  rw [e1] at h0
  exact ⟨_, h0⟩
end
theorem i_vc_commit {k : Nat} {u : SX} {v : SY} (I : i_Rel k u v) (hk : k + 4 ≤ 2048) (v1 : Int32) : wpX_commit (fun r u' => wpY_commit (fun r' v' => r' = r ∧ i_Rel (k + 4) u' v') v v1) u v1 := by
  refine rm_el (P := fun u v => wpX_commit (fun r u' => wpY_commit (fun r' v' => r' = r ∧ i_Rel (k + 4) u' v') v v1) u v1) ?_ I
  intro U M pl pt ys tx sr bf bh pf pc tc tk nd hd nx fl sz cs cp ro mx mt pu fi wk po my hR
  have hno : v1 < 0 ∨ nI 3 ≤ v1 ∨ ∃ j : Nat, j < 3 ∧ v1 = nI j := pk_ix v1 (by decide)
  by_cases hx : v1 < 0 ∨ nI 3 ≤ v1
  · unfold wpX_commit wpY_commit
    exact rx_room_f hx (br_t (by trivial) (ry_room_f hx (br_t (by trivial) ⟨rfl, rm_i hR⟩)))
  obtain ⟨r, hr, rfl⟩ : ∃ j : Nat, j < 3 ∧ v1 = nI j := by
    rcases hno with a | a | a
    · exact absurd (Or.inl a) hx
    · exact absurd (Or.inr a) hx
    · exact a
  have hR2 := hR
  obtain ⟨CH, F, h1, h2, h3, h4, h5⟩ := hR2
  obtain ⟨a1, a2, a3, a4, a5, t, ht, hct⟩ := h5 r hr
  have hw := rm_W60 h3 h1 a1
  obtain ⟨mm1, mm2⟩ := rm_m_le (rm_e tx cp r (F r)) (F r).length t 0 0
  have hplen := rm_prs_len (rm_e tx cp r (F r)) (F r).length t (F r).length 0 0 (by omega)
  have hpinc := rm_prs_inc (rm_e tx cp r (F r)) (F r).length t (F r).length 0 0 (rm_m (rm_e tx cp r (F r)) (F r).length t 0 0) (by omega)
  unfold wpX_commit
  refine rx_room_t hr (br_f rm_i10 (rx_findPairs hr a4 a3 a2 hw hct ht (fun mx mt pl pt hT hma => ?_)))
  have hm0 : mx 0 = nI (rm_m (rm_e tx cp r (F r)) (F r).length t 0 0) := hT 0 0 (Nat.le_refl _) (Nat.zero_le _) (Nat.zero_le _)
  have hro : ∀ k, k < (F r).length → rm_wf ro 0 (F r).length (fun k => nI (rm_g (F r) k)) k = nI (rm_g (F r) k) := fun k hk => rm_roI hk
  have hfr := rm_fr_len _ _ _ hpinc (Nat.zero_le _)
  rw [hplen] at hfr
  have hnsl := rm_ns_le (s := (F r).length) (t := t) (rm_prs (rm_e tx cp r (F r)) (F r).length t (F r).length 0 0 (rm_m (rm_e tx cp r (F r)) (F r).length t 0 0)) 0 0
  rw [hplen] at hnsl
  have Ymatch : ∀ {post : Int32 → SY → Prop}, (∀ my po : Nat → Int32, rm_pa t po 0 (rm_prs (rm_e tx cp r (F r)) (F r).length t (F r).length 0 0 (rm_m (rm_e tx cp r (F r)) (F r).length t 0 0)) → post (nI (rm_m (rm_e tx cp r (F r)) (F r).length t 0 0)) (nI U, nI M, ys, tx, sr, bf, bh, tc, pc, tk, pu, nd, sz, fi, cs, cp, hd, wk, po, my)) → wpY_match post (nI U, nI M, ys, tx, sr, bf, bh, tc, pc, tk, pu, nd, sz, fi, cs, cp, hd, wk, po, my) (nI r) := fun H => ry_match hr a3 a2 a5 hw hct ht H
  generalize rm_prs (rm_e tx cp r (F r)) (F r).length t (F r).length 0 0 (rm_m (rm_e tx cp r (F r)) (F r).length t 0 0) = R at hma hpinc hfr hnsl Ymatch
  generalize rm_m (rm_e tx cp r (F r)) (F r).length t 0 0 = mo at mm1 mm2 hm0 hfr hnsl Ymatch
  generalize rm_wf ro 0 (F r).length (fun k => nI (rm_g (F r) k)) = rn at hro ⊢
  unfold wpX_stretches
  refine ⟨(F r).length + 2 - 0, rx_str0 hr a3 hct a2 ht R 0 0 0 hpinc (Nat.zero_le _) (Nat.zero_le _) hma ?_⟩
  rw [Nat.zero_add]
  have Ystr : ∀ {post : Int32 → SY → Prop} {my po : Nat → Int32}, rm_pa t po 0 R → post (nI (rm_ns (F r).length t 0 0 R)) (nI U, nI M, ys, tx, sr, bf, bh, tc, pc, tk, pu, nd, sz, fi, cs, cp, hd, wk, po, my) → wpY_stretches post (nI U, nI M, ys, tx, sr, bf, bh, tc, pc, tk, pu, nd, sz, fi, cs, cp, hd, wk, po, my) (nI r) 0 := by
    intro post my po hpa H
    unfold wpY_stretches
    refine ⟨t + 2 - 0, ?_⟩
    have := ry_str0 (post := post) hr a3 hct a2 ht R 0 0 0 hpinc (Nat.zero_le _) (Nat.zero_le _) hpa (by rw [Nat.zero_add]; exact H)
    exact this
  generalize hns : rm_ns (F r).length t 0 0 R = ns at hnsl Ystr ⊢
  by_cases c16 : M + ns ≤ 16
  · have n16 : nI M + nI ns ≤ 16 := by rw [nI_add]; exact nI_le (b := 16) c16 (by decide)
    refine br_t n16 (And.intro (vp_in_nI hr (by decide)) ?_)
    rw [nI_clamp (show r < 2 ^ 31 by omega), hct, hm0]
    refine nm_r (e' := nI (t - mo)) (pk_sub (by omega)) ?_
    by_cases c60 : U + (t - mo) ≤ 60
    · have n60 : nI U + nI (t - mo) ≤ 60 := by rw [nI_add]; exact nI_le (b := 60) c60 (by decide)
      have n60' : nI U + nI t - nI mo ≤ 60 := by rw [nI_add, pk_sub (by omega)]; exact nI_le (b := 60) (by omega) (by decide)
      refine br_t n60 ?_
      have hS0 : rm_SI M r F hd U M bf bh pf pc tc tk nd pu wk CH 0 0 [] := by
        refine ⟨h3, h4, fun q hq => (h5 q hq).1, fun c z1 z2 => absurd z2 (by omega), Nat.le_refl _, rfl, fun j hj => absurd hj (by omega), ?_⟩
        rw [Nat.sub_self]
        rfl
      obtain ⟨U', M', tx', sr', bf', bh', pf', pc', tc', tk', nd', pu', wk', CH', V', q1, q2, q3, q4, q5⟩ := rm_str (M0 := M) (W := F r) (F := F) (hd := hd) (nx := nx) (fl := fl) (sz := sz) (cs := cs) (cp := cp) (ro := rn) (mx := mx) (mt := mt) (pl := pl) (pt := pt) (fi := fi) hr rfl a2 a3 hct ht hro a5 R 0 0 0 U M tx sr bf bh pf pc tc tk nd pu wk CH [] hpinc (Nat.zero_le _) (Nat.zero_le _) hma (by omega) (by omega) rfl hS0
      obtain ⟨s1, s2, s3, s4, s5, s6, s7, s8⟩ := q3
      rw [List.drop_eq_nil_of_le (Nat.le_refl _), List.append_nil] at s8
      have hK : M + (M' - M) = M' := by omega
      have hRV := rm_Stp_RI s1 q2 (s3 r hr) (fun c hc => a1.2.1 c hc) s4 (M' - M) V' (by omega) s8
      refine ⟨(F r).length + 2 - 0, q4 _ (fun n => ⟨M' - M + 1, ?_⟩)⟩
      refine rx_mkloop hr q1 q2 hK s1 (fun c hc => (s2 c hc).1) (s3 r hr) (fun c hc => a1.2.1 c hc) s4 a3 a4 (M' - M) V' (Nat.le_refl _) s8 (fun nx2 fl2 hX2 hO2 => ?_)
      rw [show M' - M - (M' - M) + 1 = 0 + 1 from by omega, hK, wX_commit_80]
      refine br_t (nI_le (Nat.le_refl _) (by omega)) ?_
      unfold wpY_commit
      refine ry_room_t hr (br_f rm_i10 (Ymatch (fun my po hpa => Ystr hpa (br_t n16 (And.intro (vp_in_nI hr (by decide)) ?_)))))
      rw [nI_clamp (show r < 2 ^ 31 by omega), hct]
      refine br_t n60' ?_
      unfold wpY_stretches
      refine ⟨t + 2 - 0, q5 po my ys hpa _ (fun n => And.intro (vp_in_nI hr (by decide)) ?_)⟩
      have hcs : cs r = nI V'.length := by rw [hct, s6]
      refine nm_r (e' := nI V'.length) hcs ?_
      refine ry_keep (W := V') hr (fun k hk => s7 k (by omega)) (by omega) (ry_mkloop hr q2 hK ⟨rfl, rm_i ?_⟩)
      refine rm_R_set (r := r) (W := V') (F := F) (hd := hd) (nx := nx) (fl := fl) (sz := sz) (cs := cs) (fi := fi) q1 q2 s1 s2 (fun q hq => ?_) ⟨?_, by omega, pk_us, hX2, fun k hk => rm_wf_i hk, t, ht, hct⟩ ?_
      · obtain ⟨b1, b2, b3, b4, b5, b6⟩ := h5 q hq
        exact ⟨s3 q hq, b2, b3, b4, b5, b6⟩
      · rw [pk_us]; exact hRV
      · intro q hq hne
        exact ⟨pk_un hne, pk_un hne, rfl, fun L hL => hO2 q hq hne L hL, fun k hk => rm_wf_o (by omega)⟩
    · have n60 : ¬ nI U + nI (t - mo) ≤ 60 := by rw [nI_add]; exact nI_ge (a := 60) (by omega) (by omega)
      have n60' : ¬ nI U + nI t - nI mo ≤ 60 := by rw [nI_add, pk_sub (by omega)]; exact nI_ge (a := 60) (by omega) (by omega)
      refine br_f n60 ?_
      unfold wpY_commit
      refine ry_room_t hr (br_f rm_i10 (Ymatch (fun my po hpa => Ystr hpa (br_t n16 (And.intro (vp_in_nI hr (by decide)) ?_)))))
      rw [nI_clamp (show r < 2 ^ 31 by omega), hct]
      exact br_f n60' ⟨rfl, rm_i hR⟩
  · have n16 : ¬ nI M + nI ns ≤ 16 := by rw [nI_add]; exact nI_ge (a := 16) (by omega) (by omega)
    refine br_f n16 ?_
    unfold wpY_commit
    exact ry_room_t hr (br_f rm_i10 (Ymatch (fun my po hpa => Ystr hpa (br_f n16 ⟨rfl, rm_i hR⟩))))
end
