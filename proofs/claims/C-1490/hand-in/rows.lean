section
/-! pure rows to paste: stores, nI and lN arithmetic, masks, shifts, narrowing, branches by naturals (pk_le, pk_lt, pk_eq), loops (lp1 .. lp16: the measure of the state; rp1 ..: recursion), negatives. Take what you need -/
theorem pk_us {f : Nat → Int32} {k : Nat} {x : Int32} : upd f k x k = x := if_pos rfl
theorem pk_un {f : Nat → Int32} {k j : Nat} {x : Int32} (h : j ≠ k) : upd f k x j = f j := if_neg h
theorem pk_uLs {f : Nat → Int64} {k : Nat} {x : Int64} : vp_updL f k x k = x := if_pos rfl
theorem pk_uLn {f : Nat → Int64} {k j : Nat} {x : Int64} (h : j ≠ k) : vp_updL f k x j = f j := if_neg h
theorem pk_sub {a b : Nat} (h : b ≤ a) : nI a - nI b = nI (a - b) := by
  obtain ⟨c, rfl⟩ : ∃ c, a = c + b := ⟨a - b, by omega⟩
  rw [← nI_add, Int32.add_sub_cancel, Nat.add_sub_cancel]
theorem pk_m1 (n : Nat) : nI (n + 1) + (-1) = nI n := by
  rw [← nI_1, Int32.add_assoc, show (1 : Int32) + (-1) = 0 from rfl, Int32.add_zero]
theorem pk_mul (a b : Nat) : nI a * nI b = nI (a * b) := (Int32.ofNat_mul a b).symm
theorem pk_div {a d : Nat} (ha : a < 2 ^ 31) (h0 : 0 < d) (hd : d < 2 ^ 31) : nI a / nI d = nI (a / d) := by
  apply Int32.toInt_inj.mp
  rw [lg_idiv_nonneg (by rw [nI_toInt ha]; omega) (by rw [nI_toInt hd]; omega), nI_toInt ha, nI_toInt hd, nI_toInt (Nat.lt_of_le_of_lt (Nat.div_le_self a d) ha)]
  first | rfl | exact (Int.natCast_ediv _ _).symm
theorem pk_rem {a d : Nat} (ha : a < 2 ^ 31) (h0 : 0 < d) (hd : d < 2 ^ 31) : nI a - nI a / nI d * nI d = nI (a % d) := by
  rw [pk_div ha h0 hd, pk_mul, pk_sub (Nat.div_mul_le_self a d)]
  exact congrArg nI (by have := Nat.div_add_mod' a d; omega)
theorem pk_sub_toInt {a b : Nat} (ha : a < 2 ^ 30) (hb : b < 2 ^ 30) : (nI a - nI b).toInt = (a : Int) - b := by
  rw [Int32.toInt_sub, nI_toInt (by omega), nI_toInt (by omega)]
  exact Int.bmod_eq_of_le (by omega) (by omega)
theorem pk_sneg {a b : Nat} (hb : b < 2 ^ 30) (h : a < b) : nI a - nI b < 0 := by
  rw [Int32.lt_iff_toInt_lt, pk_sub_toInt (by omega) hb, show (0 : Int32).toInt = 0 from by decide]
  omega
theorem pk_ix (x : Int32) {n : Nat} (hn : n < 2 ^ 31) : x < 0 ∨ nI n ≤ x ∨ ∃ j : Nat, j < n ∧ x = nI j := by
  by_cases h : x < 0
  · exact Or.inl h
  · obtain ⟨j, hj, rfl⟩ := nI_of h
    by_cases h2 : j < n
    · exact Or.inr (Or.inr ⟨j, h2, rfl⟩)
    · exact Or.inr (Or.inl (nI_le (by omega) hj))
theorem pk_le {x y : Int32} {A B : Prop} (a b : Nat) (f : a ≤ b → A) (g : b < a → B) (hx : x = nI a := by rfl) (hy : y = nI b := by rfl) (ha : a < 2 ^ 31 := by omega) (hb : b < 2 ^ 31 := by omega) : (x ≤ y → A) ∧ (¬ x ≤ y → B) := by
  subst hx hy
  rw [nI_leI ha hb]
  exact ⟨f, fun z => g (by omega)⟩
theorem pk_lt {x y : Int32} {A B : Prop} (a b : Nat) (f : a < b → A) (g : b ≤ a → B) (hx : x = nI a := by rfl) (hy : y = nI b := by rfl) (ha : a < 2 ^ 31 := by omega) (hb : b < 2 ^ 31 := by omega) : (x < y → A) ∧ (¬ x < y → B) := by
  subst hx hy
  rw [nI_ltI ha hb]
  exact ⟨f, fun z => g (by omega)⟩
theorem pk_eq {x y : Int32} {A B : Prop} (a b : Nat) (f : a = b → A) (g : a ≠ b → B) (hx : x = nI a := by rfl) (hy : y = nI b := by rfl) (ha : a < 2 ^ 31 := by omega) (hb : b < 2 ^ 31 := by omega) : (x = y → A) ∧ (¬ x = y → B) := by
  subst hx hy
  rw [nI_eq ha hb]
  exact ⟨f, g⟩
theorem pk_in {x : Int32} (n N : Nat) (h : n < N) (hx : x = nI n := by rfl) (hN : N < 2 ^ 31 := by omega) : vp_in x N := by
  subst hx
  exact vp_in_nI h hN
theorem pk_cl {x : Int32} (n : Nat) (hx : x = nI n := by rfl) (h : n < 2 ^ 31 := by omega) : x.toNatClampNeg = n := by
  subst hx
  exact nI_clamp h
theorem pk_tn {n : Nat} (h : n < 2 ^ 32) : (nI n).toBitVec.toNat = n := Nat.mod_eq_of_lt h
theorem pk_and (x : Int32) {m : Int32} (k : Nat) (hm : m.toBitVec.toNat = 2 ^ k - 1) : x &&& m = nI (x.toBitVec.toNat % 2 ^ k) := by
  apply Int32.toBitVec_inj.mp
  apply BitVec.eq_of_toNat_eq
  rw [Int32.toBitVec_and, BitVec.toNat_and, hm, Nat.and_two_pow_sub_one_eq_mod]
  show _ = (BitVec.ofNat 32 _).toNat
  rw [BitVec.toNat_ofNat]
  exact (Nat.mod_eq_of_lt (Nat.lt_of_le_of_lt (Nat.mod_le _ _) x.toBitVec.isLt)).symm
theorem pk_andN {n : Nat} (h : n < 2 ^ 32) {m : Int32} (k : Nat) (hm : m.toBitVec.toNat = 2 ^ k - 1) : nI n &&& m = nI (n % 2 ^ k) := by
  rw [pk_and _ k hm, pk_tn h]
theorem pk_andE (x : Int32) {m : Int32} (k : Nat) (hm : m.toBitVec.toNat = 2 ^ k - 1) : ∃ j : Nat, j < 2 ^ k ∧ x &&& m = nI j := ⟨_, Nat.mod_lt _ (Nat.two_pow_pos k), pk_and x k hm⟩
theorem pk_andIn (x : Int32) {m : Int32} (k : Nat) (hm : m.toBitVec.toNat = 2 ^ k - 1) (hk : k ≤ 30) : vp_in (x &&& m) (2 ^ k) := by
  obtain ⟨j, hj, e⟩ := pk_andE x k hm
  rw [e]
  exact vp_in_nI hj (Nat.lt_of_le_of_lt (Nat.pow_le_pow_right (by decide) hk) (by decide))
theorem pk_shl (a s : Int32) (k : Nat) (hs : (s.toBitVec.smod 32).toNat = k) : (a <<< s).toBitVec.toNat = a.toBitVec.toNat * 2 ^ k % 2 ^ 32 := by
  show (a.toBitVec <<< (s.toBitVec.smod 32).toNat).toNat = _
  rw [hs, BitVec.toNat_shiftLeft, Nat.shiftLeft_eq]
theorem pk_shlN {n : Nat} (s : Int32) (k : Nat) (hs : (s.toBitVec.smod 32).toNat = k) (h : n * 2 ^ k < 2 ^ 32) : nI n <<< s = nI (n * 2 ^ k) := by
  apply Int32.toBitVec_inj.mp
  apply BitVec.eq_of_toNat_eq
  have hn : n < 2 ^ 32 := Nat.lt_of_le_of_lt (Nat.le_mul_of_pos_right n (Nat.two_pow_pos k)) h
  rw [pk_shl _ _ k hs, pk_tn hn, pk_tn h, Nat.mod_eq_of_lt h]
theorem pk_shr (a s : Int32) (k : Nat) (hs : (s.toBitVec.smod 32).toNat = k) : (a >>> s).toInt = a.toInt >>> k := by
  show (a.toBitVec.sshiftRight (s.toBitVec.smod 32).toNat).toInt = _
  rw [hs, BitVec.toInt_sshiftRight]
  rfl
theorem pk_shrN {n : Nat} (h : n < 2 ^ 31) (s : Int32) (k : Nat) (hs : (s.toBitVec.smod 32).toNat = k) : nI n >>> s = nI (n / 2 ^ k) := by
  apply Int32.toInt_inj.mp
  have h2 : n / 2 ^ k ≤ n := Nat.div_le_self _ _
  rw [pk_shr _ _ k hs, nI_toInt h, nI_toInt (by omega), Int.shiftRight_eq_div_pow]
  rfl
theorem pk_ushr (x s : Int32) (k : Nat) (hs : ((s.toUInt32 &&& Int32.toUInt32 31).toBitVec % 32).toNat = k) : (x.toUInt32 >>> (s.toUInt32 &&& Int32.toUInt32 31)).toInt32.toBitVec.toNat = x.toBitVec.toNat / 2 ^ k := by
  have e : (x.toUInt32 >>> (s.toUInt32 &&& Int32.toUInt32 31)).toInt32.toBitVec = x.toBitVec >>> k := by
    rw [← hs]
    exact UInt32.toBitVec_shiftRight _ _
  rw [e, BitVec.toNat_ushiftRight, Nat.shiftRight_eq_div_pow]
theorem pk_ushrN {n : Nat} (hn : n < 2 ^ 32) (s : Int32) (k : Nat) (hs : ((s.toUInt32 &&& Int32.toUInt32 31).toBitVec % 32).toNat = k) : ((nI n).toUInt32 >>> (s.toUInt32 &&& Int32.toUInt32 31)).toInt32 = nI (n / 2 ^ k) := by
  apply Int32.toBitVec_inj.mp
  apply BitVec.eq_of_toNat_eq
  rw [pk_ushr _ s k hs, pk_tn hn, pk_tn (Nat.lt_of_le_of_lt (Nat.div_le_self _ _) hn)]
theorem pk_nb (z : Int32) : narrow .byte (.int z.toInt8.toInt32) = .int z.toInt8.toInt32 := congrArg Value.int (by simp)
theorem pk_ns (z : Int32) : narrow .short (.int z.toInt16.toInt32) = .int z.toInt16.toInt32 := congrArg Value.int (by simp)
theorem pk_fb (r : Int32) : fits .byte (.int r.toInt8.toInt32) = true := by
  have ⟨a, b⟩ := lg_i2b_range r
  have h1 : (-128 : Int32).toInt = -128 := by decide
  have h2 : (127 : Int32).toInt = 127 := by decide
  simp only [fits, Bool.and_eq_true, decide_eq_true_eq, Int32.le_iff_toInt_le, h1, h2]
  omega
theorem pk_fs (r : Int32) : fits .short (.int r.toInt16.toInt32) = true := by
  have ⟨a, b⟩ := lg_i2s_range r
  have h1 : (-32768 : Int32).toInt = -32768 := by decide
  have h2 : (32767 : Int32).toInt = 32767 := by decide
  simp only [fits, Bool.and_eq_true, decide_eq_true_eq, Int32.le_iff_toInt_le, h1, h2]
  omega
theorem pk_charN {q : Nat} (hq : q < 65536) : narrow .char (.int (nI q)) = .int (nI q) ∧ fits .char (.int (nI q)) = true := by
  constructor
  · have e : (nI q).toUInt32.toUInt16.toUInt32.toInt32 = nI q := by
      apply Int32.toBitVec_inj.mp
      apply BitVec.eq_of_toNat_eq
      show (nI q).toUInt32.toUInt16.toUInt32.toNat = q % 2 ^ 32
      rw [UInt16.toNat_toUInt32, UInt32.toNat_toUInt16, show (nI q).toUInt32.toNat = q % 2 ^ 32 from rfl]
      omega
    exact congrArg Value.int e
  · have a : (0 : Int32) ≤ nI q := nI_pos' (by omega)
    have b : nI q ≤ 65535 := nI_le (b := 65535) (by omega) (by decide)
    show (decide ((0 : Int32) ≤ nI q) && decide (nI q ≤ 65535)) = true
    rw [decide_eq_true a, decide_eq_true b]
    rfl
theorem pk_char (x : Int32) : (x.toUInt32 % 65536).toInt32 = nI (x.toBitVec.toNat % 65536) := by
  apply Int32.toBitVec_inj.mp
  apply BitVec.eq_of_toNat_eq
  rw [pk_tn (by omega)]
  show (x.toUInt32 % 65536).toNat = _
  rw [UInt32.toNat_mod]
  rfl
theorem pk_nc (x : Int32) : narrow .char (.int (x.toUInt32 % 65536).toInt32) = .int (x.toUInt32 % 65536).toInt32 := by
  rw [pk_char]
  exact (pk_charN (Nat.mod_lt _ (by decide))).1
theorem pk_fc (x : Int32) : fits .char (.int (x.toUInt32 % 65536).toInt32) = true := by
  rw [pk_char]
  exact (pk_charN (Nat.mod_lt _ (by decide))).2
theorem pk_vb (z : Int32) : vp_nar .byte z.toInt8.toInt32 = z.toInt8.toInt32 := by rw [vp_nar_byte]; simp
theorem pk_vs (z : Int32) : vp_nar .short z.toInt16.toInt32 = z.toInt16.toInt32 := by rw [vp_nar_short]; simp
theorem pk_vc (z : Int32) : vp_nar .char (z.toUInt32 % 65536).toInt32 = (z.toUInt32 % 65536).toInt32 := Value.int.inj (pk_nc z)
theorem pk_lT {n : Nat} (h : n < 2 ^ 63) : (lN n).toInt = (n : Int) := lg_ofNat_toInt h
theorem pk_lLT {a b : Nat} (ha : a < 2 ^ 63) (hb : b < 2 ^ 63) : lN a < lN b ↔ a < b := by
  rw [Int64.lt_iff_toInt_lt, pk_lT ha, pk_lT hb]; omega
theorem pk_lLE {a b : Nat} (ha : a < 2 ^ 63) (hb : b < 2 ^ 63) : lN a ≤ lN b ↔ a ≤ b := by
  rw [Int64.le_iff_toInt_le, pk_lT ha, pk_lT hb]; omega
theorem pk_lEQ {a b : Nat} (ha : a < 2 ^ 63) (hb : b < 2 ^ 63) : lN a = lN b ↔ a = b := by
  rw [← Int64.toInt_inj, pk_lT ha, pk_lT hb]; omega
theorem pk_lOf {x : Int64} (h : ¬ x < 0) : ∃ k : Nat, k < 2 ^ 63 ∧ x = lN k := by
  rw [Int64.lt_iff_toInt_lt] at h
  have h0 : (0 : Int64).toInt = 0 := by decide
  have hx := Int64.toInt_lt x
  refine ⟨x.toInt.toNat, by omega, Int64.toInt_inj.mp ?_⟩
  rw [pk_lT (by omega)]
  omega
theorem pk_lDiv {a b : Nat} (ha : a < 2 ^ 63) (h0 : 0 < b) (hb : b < 2 ^ 63) : lN a / lN b = lN (a / b) := by
  apply Int64.toInt_inj.mp
  rw [lg_ldiv_nonneg (by rw [pk_lT ha]; omega) (by rw [pk_lT hb]; omega), pk_lT ha, pk_lT hb, pk_lT (Nat.lt_of_le_of_lt (Nat.div_le_self a b) ha)]
  rfl
theorem pk_lRem {a b : Nat} (ha : a < 2 ^ 63) (h0 : 0 < b) (hb : b < 2 ^ 63) : lN a - lN a / lN b * lN b = lN (a % b) := by
  rw [pk_lDiv ha h0 hb, lN_mul, lN_sub (Nat.div_mul_le_self a b)]
  exact congrArg lN (by have := Nat.div_add_mod' a b; omega)
theorem pk_loop {σ : Type} (W : Nat → Nat → σ → Prop) (I : Nat → σ → Prop) (e i0 : Nat) (s : σ) (hi : i0 ≤ e) (h0 : I i0 s) (hx : ∀ n s, I e s → W (n + 1) e s)
    (hs : ∀ n i s, i < e → I i s → (∀ s', I (i + 1) s' → W n (i + 1) s') → W (n + 1) i s) : ∃ n, W n i0 s :=
  ⟨e + 1, loop_i W I e hx hs (e + 1) i0 s hi (by omega) h0⟩
theorem pk_loopD {σ : Type} (W : Nat → Nat → σ → Prop) (I : Nat → σ → Prop) (hx : ∀ n s, I 0 s → W (n + 1) 0 s)
    (hs : ∀ n i s, I (i + 1) s → (∀ s', I i s' → W n i s') → W (n + 1) (i + 1) s) : ∀ (e : Nat) (s : σ), I e s → W (e + 1) e s := by
  intro e
  induction e with
  | zero => exact fun s h => hx 0 s h
  | succ e ih => exact fun s h => hs (e + 1) e s h (fun s' h' => ih s' h')
theorem lp1 {A1 : Type} (W : Nat → A1 → Prop) (I : A1 → Prop) (μ : A1 → Nat) (hs : ∀ (n : Nat) (a1 : A1), I a1 → (∀ (b1 : A1), I b1 → μ b1 < μ a1 → W n b1) → W (n + 1) a1) (a1 : A1) (h : I a1) : ∃ n, W n a1 :=
  loop_m (σ := A1) (fun n s => W n s) (fun s => I s) (fun s => μ s) (fun n s hI hk => hs n s hI (fun b1 h9 hm => hk b1 h9 hm)) a1 h
theorem lp2 {A1 A2 : Type} (W : Nat → A1 → A2 → Prop) (I : A1 → A2 → Prop) (μ : A1 → A2 → Nat) (hs : ∀ (n : Nat) (a1 : A1) (a2 : A2), I a1 a2 → (∀ (b1 : A1) (b2 : A2), I b1 b2 → μ b1 b2 < μ a1 a2 → W n b1 b2) → W (n + 1) a1 a2) (a1 : A1) (a2 : A2) (h : I a1 a2) : ∃ n, W n a1 a2 :=
  loop_m (σ := A1 × A2) (fun n s => W n s.1 s.2) (fun s => I s.1 s.2) (fun s => μ s.1 s.2) (fun n s hI hk => hs n s.1 s.2 hI (fun b1 b2 h9 hm => hk (b1, b2) h9 hm)) (a1, a2) h
theorem lp3 {A1 A2 A3 : Type} (W : Nat → A1 → A2 → A3 → Prop) (I : A1 → A2 → A3 → Prop) (μ : A1 → A2 → A3 → Nat) (hs : ∀ (n : Nat) (a1 : A1) (a2 : A2) (a3 : A3), I a1 a2 a3 → (∀ (b1 : A1) (b2 : A2) (b3 : A3), I b1 b2 b3 → μ b1 b2 b3 < μ a1 a2 a3 → W n b1 b2 b3) → W (n + 1) a1 a2 a3) (a1 : A1) (a2 : A2) (a3 : A3) (h : I a1 a2 a3) : ∃ n, W n a1 a2 a3 :=
  loop_m (σ := A1 × A2 × A3) (fun n s => W n s.1 s.2.1 s.2.2) (fun s => I s.1 s.2.1 s.2.2) (fun s => μ s.1 s.2.1 s.2.2) (fun n s hI hk => hs n s.1 s.2.1 s.2.2 hI (fun b1 b2 b3 h9 hm => hk (b1, b2, b3) h9 hm)) (a1, a2, a3) h
theorem lp4 {A1 A2 A3 A4 : Type} (W : Nat → A1 → A2 → A3 → A4 → Prop) (I : A1 → A2 → A3 → A4 → Prop) (μ : A1 → A2 → A3 → A4 → Nat) (hs : ∀ (n : Nat) (a1 : A1) (a2 : A2) (a3 : A3) (a4 : A4), I a1 a2 a3 a4 → (∀ (b1 : A1) (b2 : A2) (b3 : A3) (b4 : A4), I b1 b2 b3 b4 → μ b1 b2 b3 b4 < μ a1 a2 a3 a4 → W n b1 b2 b3 b4) → W (n + 1) a1 a2 a3 a4) (a1 : A1) (a2 : A2) (a3 : A3) (a4 : A4) (h : I a1 a2 a3 a4) : ∃ n, W n a1 a2 a3 a4 :=
  loop_m (σ := A1 × A2 × A3 × A4) (fun n s => W n s.1 s.2.1 s.2.2.1 s.2.2.2) (fun s => I s.1 s.2.1 s.2.2.1 s.2.2.2) (fun s => μ s.1 s.2.1 s.2.2.1 s.2.2.2) (fun n s hI hk => hs n s.1 s.2.1 s.2.2.1 s.2.2.2 hI (fun b1 b2 b3 b4 h9 hm => hk (b1, b2, b3, b4) h9 hm)) (a1, a2, a3, a4) h
theorem lp5 {A1 A2 A3 A4 A5 : Type} (W : Nat → A1 → A2 → A3 → A4 → A5 → Prop) (I : A1 → A2 → A3 → A4 → A5 → Prop) (μ : A1 → A2 → A3 → A4 → A5 → Nat) (hs : ∀ (n : Nat) (a1 : A1) (a2 : A2) (a3 : A3) (a4 : A4) (a5 : A5), I a1 a2 a3 a4 a5 → (∀ (b1 : A1) (b2 : A2) (b3 : A3) (b4 : A4) (b5 : A5), I b1 b2 b3 b4 b5 → μ b1 b2 b3 b4 b5 < μ a1 a2 a3 a4 a5 → W n b1 b2 b3 b4 b5) → W (n + 1) a1 a2 a3 a4 a5) (a1 : A1) (a2 : A2) (a3 : A3) (a4 : A4) (a5 : A5) (h : I a1 a2 a3 a4 a5) : ∃ n, W n a1 a2 a3 a4 a5 :=
  loop_m (σ := A1 × A2 × A3 × A4 × A5) (fun n s => W n s.1 s.2.1 s.2.2.1 s.2.2.2.1 s.2.2.2.2) (fun s => I s.1 s.2.1 s.2.2.1 s.2.2.2.1 s.2.2.2.2) (fun s => μ s.1 s.2.1 s.2.2.1 s.2.2.2.1 s.2.2.2.2) (fun n s hI hk => hs n s.1 s.2.1 s.2.2.1 s.2.2.2.1 s.2.2.2.2 hI (fun b1 b2 b3 b4 b5 h9 hm => hk (b1, b2, b3, b4, b5) h9 hm)) (a1, a2, a3, a4, a5) h
theorem lp6 {A1 A2 A3 A4 A5 A6 : Type} (W : Nat → A1 → A2 → A3 → A4 → A5 → A6 → Prop) (I : A1 → A2 → A3 → A4 → A5 → A6 → Prop) (μ : A1 → A2 → A3 → A4 → A5 → A6 → Nat) (hs : ∀ (n : Nat) (a1 : A1) (a2 : A2) (a3 : A3) (a4 : A4) (a5 : A5) (a6 : A6), I a1 a2 a3 a4 a5 a6 → (∀ (b1 : A1) (b2 : A2) (b3 : A3) (b4 : A4) (b5 : A5) (b6 : A6), I b1 b2 b3 b4 b5 b6 → μ b1 b2 b3 b4 b5 b6 < μ a1 a2 a3 a4 a5 a6 → W n b1 b2 b3 b4 b5 b6) → W (n + 1) a1 a2 a3 a4 a5 a6) (a1 : A1) (a2 : A2) (a3 : A3) (a4 : A4) (a5 : A5) (a6 : A6) (h : I a1 a2 a3 a4 a5 a6) : ∃ n, W n a1 a2 a3 a4 a5 a6 :=
  loop_m (σ := A1 × A2 × A3 × A4 × A5 × A6) (fun n s => W n s.1 s.2.1 s.2.2.1 s.2.2.2.1 s.2.2.2.2.1 s.2.2.2.2.2) (fun s => I s.1 s.2.1 s.2.2.1 s.2.2.2.1 s.2.2.2.2.1 s.2.2.2.2.2) (fun s => μ s.1 s.2.1 s.2.2.1 s.2.2.2.1 s.2.2.2.2.1 s.2.2.2.2.2) (fun n s hI hk => hs n s.1 s.2.1 s.2.2.1 s.2.2.2.1 s.2.2.2.2.1 s.2.2.2.2.2 hI (fun b1 b2 b3 b4 b5 b6 h9 hm => hk (b1, b2, b3, b4, b5, b6) h9 hm)) (a1, a2, a3, a4, a5, a6) h
theorem lp7 {A1 A2 A3 A4 A5 A6 A7 : Type} (W : Nat → A1 → A2 → A3 → A4 → A5 → A6 → A7 → Prop) (I : A1 → A2 → A3 → A4 → A5 → A6 → A7 → Prop) (μ : A1 → A2 → A3 → A4 → A5 → A6 → A7 → Nat) (hs : ∀ (n : Nat) (a1 : A1) (a2 : A2) (a3 : A3) (a4 : A4) (a5 : A5) (a6 : A6) (a7 : A7), I a1 a2 a3 a4 a5 a6 a7 → (∀ (b1 : A1) (b2 : A2) (b3 : A3) (b4 : A4) (b5 : A5) (b6 : A6) (b7 : A7), I b1 b2 b3 b4 b5 b6 b7 → μ b1 b2 b3 b4 b5 b6 b7 < μ a1 a2 a3 a4 a5 a6 a7 → W n b1 b2 b3 b4 b5 b6 b7) → W (n + 1) a1 a2 a3 a4 a5 a6 a7) (a1 : A1) (a2 : A2) (a3 : A3) (a4 : A4) (a5 : A5) (a6 : A6) (a7 : A7) (h : I a1 a2 a3 a4 a5 a6 a7) : ∃ n, W n a1 a2 a3 a4 a5 a6 a7 :=
  loop_m (σ := A1 × A2 × A3 × A4 × A5 × A6 × A7) (fun n s => W n s.1 s.2.1 s.2.2.1 s.2.2.2.1 s.2.2.2.2.1 s.2.2.2.2.2.1 s.2.2.2.2.2.2) (fun s => I s.1 s.2.1 s.2.2.1 s.2.2.2.1 s.2.2.2.2.1 s.2.2.2.2.2.1 s.2.2.2.2.2.2) (fun s => μ s.1 s.2.1 s.2.2.1 s.2.2.2.1 s.2.2.2.2.1 s.2.2.2.2.2.1 s.2.2.2.2.2.2) (fun n s hI hk => hs n s.1 s.2.1 s.2.2.1 s.2.2.2.1 s.2.2.2.2.1 s.2.2.2.2.2.1 s.2.2.2.2.2.2 hI (fun b1 b2 b3 b4 b5 b6 b7 h9 hm => hk (b1, b2, b3, b4, b5, b6, b7) h9 hm)) (a1, a2, a3, a4, a5, a6, a7) h
theorem lp8 {A1 A2 A3 A4 A5 A6 A7 A8 : Type} (W : Nat → A1 → A2 → A3 → A4 → A5 → A6 → A7 → A8 → Prop) (I : A1 → A2 → A3 → A4 → A5 → A6 → A7 → A8 → Prop) (μ : A1 → A2 → A3 → A4 → A5 → A6 → A7 → A8 → Nat) (hs : ∀ (n : Nat) (a1 : A1) (a2 : A2) (a3 : A3) (a4 : A4) (a5 : A5) (a6 : A6) (a7 : A7) (a8 : A8), I a1 a2 a3 a4 a5 a6 a7 a8 → (∀ (b1 : A1) (b2 : A2) (b3 : A3) (b4 : A4) (b5 : A5) (b6 : A6) (b7 : A7) (b8 : A8), I b1 b2 b3 b4 b5 b6 b7 b8 → μ b1 b2 b3 b4 b5 b6 b7 b8 < μ a1 a2 a3 a4 a5 a6 a7 a8 → W n b1 b2 b3 b4 b5 b6 b7 b8) → W (n + 1) a1 a2 a3 a4 a5 a6 a7 a8) (a1 : A1) (a2 : A2) (a3 : A3) (a4 : A4) (a5 : A5) (a6 : A6) (a7 : A7) (a8 : A8) (h : I a1 a2 a3 a4 a5 a6 a7 a8) : ∃ n, W n a1 a2 a3 a4 a5 a6 a7 a8 :=
  loop_m (σ := A1 × A2 × A3 × A4 × A5 × A6 × A7 × A8) (fun n s => W n s.1 s.2.1 s.2.2.1 s.2.2.2.1 s.2.2.2.2.1 s.2.2.2.2.2.1 s.2.2.2.2.2.2.1 s.2.2.2.2.2.2.2) (fun s => I s.1 s.2.1 s.2.2.1 s.2.2.2.1 s.2.2.2.2.1 s.2.2.2.2.2.1 s.2.2.2.2.2.2.1 s.2.2.2.2.2.2.2) (fun s => μ s.1 s.2.1 s.2.2.1 s.2.2.2.1 s.2.2.2.2.1 s.2.2.2.2.2.1 s.2.2.2.2.2.2.1 s.2.2.2.2.2.2.2) (fun n s hI hk => hs n s.1 s.2.1 s.2.2.1 s.2.2.2.1 s.2.2.2.2.1 s.2.2.2.2.2.1 s.2.2.2.2.2.2.1 s.2.2.2.2.2.2.2 hI (fun b1 b2 b3 b4 b5 b6 b7 b8 h9 hm => hk (b1, b2, b3, b4, b5, b6, b7, b8) h9 hm)) (a1, a2, a3, a4, a5, a6, a7, a8) h
theorem lp9 {A1 A2 A3 A4 A5 A6 A7 A8 A9 : Type} (W : Nat → A1 → A2 → A3 → A4 → A5 → A6 → A7 → A8 → A9 → Prop) (I : A1 → A2 → A3 → A4 → A5 → A6 → A7 → A8 → A9 → Prop) (μ : A1 → A2 → A3 → A4 → A5 → A6 → A7 → A8 → A9 → Nat) (hs : ∀ (n : Nat) (a1 : A1) (a2 : A2) (a3 : A3) (a4 : A4) (a5 : A5) (a6 : A6) (a7 : A7) (a8 : A8) (a9 : A9), I a1 a2 a3 a4 a5 a6 a7 a8 a9 → (∀ (b1 : A1) (b2 : A2) (b3 : A3) (b4 : A4) (b5 : A5) (b6 : A6) (b7 : A7) (b8 : A8) (b9 : A9), I b1 b2 b3 b4 b5 b6 b7 b8 b9 → μ b1 b2 b3 b4 b5 b6 b7 b8 b9 < μ a1 a2 a3 a4 a5 a6 a7 a8 a9 → W n b1 b2 b3 b4 b5 b6 b7 b8 b9) → W (n + 1) a1 a2 a3 a4 a5 a6 a7 a8 a9) (a1 : A1) (a2 : A2) (a3 : A3) (a4 : A4) (a5 : A5) (a6 : A6) (a7 : A7) (a8 : A8) (a9 : A9) (h : I a1 a2 a3 a4 a5 a6 a7 a8 a9) : ∃ n, W n a1 a2 a3 a4 a5 a6 a7 a8 a9 :=
  loop_m (σ := A1 × A2 × A3 × A4 × A5 × A6 × A7 × A8 × A9) (fun n s => W n s.1 s.2.1 s.2.2.1 s.2.2.2.1 s.2.2.2.2.1 s.2.2.2.2.2.1 s.2.2.2.2.2.2.1 s.2.2.2.2.2.2.2.1 s.2.2.2.2.2.2.2.2) (fun s => I s.1 s.2.1 s.2.2.1 s.2.2.2.1 s.2.2.2.2.1 s.2.2.2.2.2.1 s.2.2.2.2.2.2.1 s.2.2.2.2.2.2.2.1 s.2.2.2.2.2.2.2.2) (fun s => μ s.1 s.2.1 s.2.2.1 s.2.2.2.1 s.2.2.2.2.1 s.2.2.2.2.2.1 s.2.2.2.2.2.2.1 s.2.2.2.2.2.2.2.1 s.2.2.2.2.2.2.2.2) (fun n s hI hk => hs n s.1 s.2.1 s.2.2.1 s.2.2.2.1 s.2.2.2.2.1 s.2.2.2.2.2.1 s.2.2.2.2.2.2.1 s.2.2.2.2.2.2.2.1 s.2.2.2.2.2.2.2.2 hI (fun b1 b2 b3 b4 b5 b6 b7 b8 b9 h9 hm => hk (b1, b2, b3, b4, b5, b6, b7, b8, b9) h9 hm)) (a1, a2, a3, a4, a5, a6, a7, a8, a9) h
theorem lp10 {A1 A2 A3 A4 A5 A6 A7 A8 A9 A10 : Type} (W : Nat → A1 → A2 → A3 → A4 → A5 → A6 → A7 → A8 → A9 → A10 → Prop) (I : A1 → A2 → A3 → A4 → A5 → A6 → A7 → A8 → A9 → A10 → Prop) (μ : A1 → A2 → A3 → A4 → A5 → A6 → A7 → A8 → A9 → A10 → Nat) (hs : ∀ (n : Nat) (a1 : A1) (a2 : A2) (a3 : A3) (a4 : A4) (a5 : A5) (a6 : A6) (a7 : A7) (a8 : A8) (a9 : A9) (a10 : A10), I a1 a2 a3 a4 a5 a6 a7 a8 a9 a10 → (∀ (b1 : A1) (b2 : A2) (b3 : A3) (b4 : A4) (b5 : A5) (b6 : A6) (b7 : A7) (b8 : A8) (b9 : A9) (b10 : A10), I b1 b2 b3 b4 b5 b6 b7 b8 b9 b10 → μ b1 b2 b3 b4 b5 b6 b7 b8 b9 b10 < μ a1 a2 a3 a4 a5 a6 a7 a8 a9 a10 → W n b1 b2 b3 b4 b5 b6 b7 b8 b9 b10) → W (n + 1) a1 a2 a3 a4 a5 a6 a7 a8 a9 a10) (a1 : A1) (a2 : A2) (a3 : A3) (a4 : A4) (a5 : A5) (a6 : A6) (a7 : A7) (a8 : A8) (a9 : A9) (a10 : A10) (h : I a1 a2 a3 a4 a5 a6 a7 a8 a9 a10) : ∃ n, W n a1 a2 a3 a4 a5 a6 a7 a8 a9 a10 :=
  loop_m (σ := A1 × A2 × A3 × A4 × A5 × A6 × A7 × A8 × A9 × A10) (fun n s => W n s.1 s.2.1 s.2.2.1 s.2.2.2.1 s.2.2.2.2.1 s.2.2.2.2.2.1 s.2.2.2.2.2.2.1 s.2.2.2.2.2.2.2.1 s.2.2.2.2.2.2.2.2.1 s.2.2.2.2.2.2.2.2.2) (fun s => I s.1 s.2.1 s.2.2.1 s.2.2.2.1 s.2.2.2.2.1 s.2.2.2.2.2.1 s.2.2.2.2.2.2.1 s.2.2.2.2.2.2.2.1 s.2.2.2.2.2.2.2.2.1 s.2.2.2.2.2.2.2.2.2) (fun s => μ s.1 s.2.1 s.2.2.1 s.2.2.2.1 s.2.2.2.2.1 s.2.2.2.2.2.1 s.2.2.2.2.2.2.1 s.2.2.2.2.2.2.2.1 s.2.2.2.2.2.2.2.2.1 s.2.2.2.2.2.2.2.2.2) (fun n s hI hk => hs n s.1 s.2.1 s.2.2.1 s.2.2.2.1 s.2.2.2.2.1 s.2.2.2.2.2.1 s.2.2.2.2.2.2.1 s.2.2.2.2.2.2.2.1 s.2.2.2.2.2.2.2.2.1 s.2.2.2.2.2.2.2.2.2 hI (fun b1 b2 b3 b4 b5 b6 b7 b8 b9 b10 h9 hm => hk (b1, b2, b3, b4, b5, b6, b7, b8, b9, b10) h9 hm)) (a1, a2, a3, a4, a5, a6, a7, a8, a9, a10) h
theorem lp11 {A1 A2 A3 A4 A5 A6 A7 A8 A9 A10 A11 : Type} (W : Nat → A1 → A2 → A3 → A4 → A5 → A6 → A7 → A8 → A9 → A10 → A11 → Prop) (I : A1 → A2 → A3 → A4 → A5 → A6 → A7 → A8 → A9 → A10 → A11 → Prop) (μ : A1 → A2 → A3 → A4 → A5 → A6 → A7 → A8 → A9 → A10 → A11 → Nat) (hs : ∀ (n : Nat) (a1 : A1) (a2 : A2) (a3 : A3) (a4 : A4) (a5 : A5) (a6 : A6) (a7 : A7) (a8 : A8) (a9 : A9) (a10 : A10) (a11 : A11), I a1 a2 a3 a4 a5 a6 a7 a8 a9 a10 a11 → (∀ (b1 : A1) (b2 : A2) (b3 : A3) (b4 : A4) (b5 : A5) (b6 : A6) (b7 : A7) (b8 : A8) (b9 : A9) (b10 : A10) (b11 : A11), I b1 b2 b3 b4 b5 b6 b7 b8 b9 b10 b11 → μ b1 b2 b3 b4 b5 b6 b7 b8 b9 b10 b11 < μ a1 a2 a3 a4 a5 a6 a7 a8 a9 a10 a11 → W n b1 b2 b3 b4 b5 b6 b7 b8 b9 b10 b11) → W (n + 1) a1 a2 a3 a4 a5 a6 a7 a8 a9 a10 a11) (a1 : A1) (a2 : A2) (a3 : A3) (a4 : A4) (a5 : A5) (a6 : A6) (a7 : A7) (a8 : A8) (a9 : A9) (a10 : A10) (a11 : A11) (h : I a1 a2 a3 a4 a5 a6 a7 a8 a9 a10 a11) : ∃ n, W n a1 a2 a3 a4 a5 a6 a7 a8 a9 a10 a11 :=
  loop_m (σ := A1 × A2 × A3 × A4 × A5 × A6 × A7 × A8 × A9 × A10 × A11) (fun n s => W n s.1 s.2.1 s.2.2.1 s.2.2.2.1 s.2.2.2.2.1 s.2.2.2.2.2.1 s.2.2.2.2.2.2.1 s.2.2.2.2.2.2.2.1 s.2.2.2.2.2.2.2.2.1 s.2.2.2.2.2.2.2.2.2.1 s.2.2.2.2.2.2.2.2.2.2) (fun s => I s.1 s.2.1 s.2.2.1 s.2.2.2.1 s.2.2.2.2.1 s.2.2.2.2.2.1 s.2.2.2.2.2.2.1 s.2.2.2.2.2.2.2.1 s.2.2.2.2.2.2.2.2.1 s.2.2.2.2.2.2.2.2.2.1 s.2.2.2.2.2.2.2.2.2.2) (fun s => μ s.1 s.2.1 s.2.2.1 s.2.2.2.1 s.2.2.2.2.1 s.2.2.2.2.2.1 s.2.2.2.2.2.2.1 s.2.2.2.2.2.2.2.1 s.2.2.2.2.2.2.2.2.1 s.2.2.2.2.2.2.2.2.2.1 s.2.2.2.2.2.2.2.2.2.2) (fun n s hI hk => hs n s.1 s.2.1 s.2.2.1 s.2.2.2.1 s.2.2.2.2.1 s.2.2.2.2.2.1 s.2.2.2.2.2.2.1 s.2.2.2.2.2.2.2.1 s.2.2.2.2.2.2.2.2.1 s.2.2.2.2.2.2.2.2.2.1 s.2.2.2.2.2.2.2.2.2.2 hI (fun b1 b2 b3 b4 b5 b6 b7 b8 b9 b10 b11 h9 hm => hk (b1, b2, b3, b4, b5, b6, b7, b8, b9, b10, b11) h9 hm)) (a1, a2, a3, a4, a5, a6, a7, a8, a9, a10, a11) h
theorem lp12 {A1 A2 A3 A4 A5 A6 A7 A8 A9 A10 A11 A12 : Type} (W : Nat → A1 → A2 → A3 → A4 → A5 → A6 → A7 → A8 → A9 → A10 → A11 → A12 → Prop) (I : A1 → A2 → A3 → A4 → A5 → A6 → A7 → A8 → A9 → A10 → A11 → A12 → Prop) (μ : A1 → A2 → A3 → A4 → A5 → A6 → A7 → A8 → A9 → A10 → A11 → A12 → Nat) (hs : ∀ (n : Nat) (a1 : A1) (a2 : A2) (a3 : A3) (a4 : A4) (a5 : A5) (a6 : A6) (a7 : A7) (a8 : A8) (a9 : A9) (a10 : A10) (a11 : A11) (a12 : A12), I a1 a2 a3 a4 a5 a6 a7 a8 a9 a10 a11 a12 → (∀ (b1 : A1) (b2 : A2) (b3 : A3) (b4 : A4) (b5 : A5) (b6 : A6) (b7 : A7) (b8 : A8) (b9 : A9) (b10 : A10) (b11 : A11) (b12 : A12), I b1 b2 b3 b4 b5 b6 b7 b8 b9 b10 b11 b12 → μ b1 b2 b3 b4 b5 b6 b7 b8 b9 b10 b11 b12 < μ a1 a2 a3 a4 a5 a6 a7 a8 a9 a10 a11 a12 → W n b1 b2 b3 b4 b5 b6 b7 b8 b9 b10 b11 b12) → W (n + 1) a1 a2 a3 a4 a5 a6 a7 a8 a9 a10 a11 a12) (a1 : A1) (a2 : A2) (a3 : A3) (a4 : A4) (a5 : A5) (a6 : A6) (a7 : A7) (a8 : A8) (a9 : A9) (a10 : A10) (a11 : A11) (a12 : A12) (h : I a1 a2 a3 a4 a5 a6 a7 a8 a9 a10 a11 a12) : ∃ n, W n a1 a2 a3 a4 a5 a6 a7 a8 a9 a10 a11 a12 :=
  loop_m (σ := A1 × A2 × A3 × A4 × A5 × A6 × A7 × A8 × A9 × A10 × A11 × A12) (fun n s => W n s.1 s.2.1 s.2.2.1 s.2.2.2.1 s.2.2.2.2.1 s.2.2.2.2.2.1 s.2.2.2.2.2.2.1 s.2.2.2.2.2.2.2.1 s.2.2.2.2.2.2.2.2.1 s.2.2.2.2.2.2.2.2.2.1 s.2.2.2.2.2.2.2.2.2.2.1 s.2.2.2.2.2.2.2.2.2.2.2) (fun s => I s.1 s.2.1 s.2.2.1 s.2.2.2.1 s.2.2.2.2.1 s.2.2.2.2.2.1 s.2.2.2.2.2.2.1 s.2.2.2.2.2.2.2.1 s.2.2.2.2.2.2.2.2.1 s.2.2.2.2.2.2.2.2.2.1 s.2.2.2.2.2.2.2.2.2.2.1 s.2.2.2.2.2.2.2.2.2.2.2) (fun s => μ s.1 s.2.1 s.2.2.1 s.2.2.2.1 s.2.2.2.2.1 s.2.2.2.2.2.1 s.2.2.2.2.2.2.1 s.2.2.2.2.2.2.2.1 s.2.2.2.2.2.2.2.2.1 s.2.2.2.2.2.2.2.2.2.1 s.2.2.2.2.2.2.2.2.2.2.1 s.2.2.2.2.2.2.2.2.2.2.2) (fun n s hI hk => hs n s.1 s.2.1 s.2.2.1 s.2.2.2.1 s.2.2.2.2.1 s.2.2.2.2.2.1 s.2.2.2.2.2.2.1 s.2.2.2.2.2.2.2.1 s.2.2.2.2.2.2.2.2.1 s.2.2.2.2.2.2.2.2.2.1 s.2.2.2.2.2.2.2.2.2.2.1 s.2.2.2.2.2.2.2.2.2.2.2 hI (fun b1 b2 b3 b4 b5 b6 b7 b8 b9 b10 b11 b12 h9 hm => hk (b1, b2, b3, b4, b5, b6, b7, b8, b9, b10, b11, b12) h9 hm)) (a1, a2, a3, a4, a5, a6, a7, a8, a9, a10, a11, a12) h
theorem lp13 {A1 A2 A3 A4 A5 A6 A7 A8 A9 A10 A11 A12 A13 : Type} (W : Nat → A1 → A2 → A3 → A4 → A5 → A6 → A7 → A8 → A9 → A10 → A11 → A12 → A13 → Prop) (I : A1 → A2 → A3 → A4 → A5 → A6 → A7 → A8 → A9 → A10 → A11 → A12 → A13 → Prop) (μ : A1 → A2 → A3 → A4 → A5 → A6 → A7 → A8 → A9 → A10 → A11 → A12 → A13 → Nat) (hs : ∀ (n : Nat) (a1 : A1) (a2 : A2) (a3 : A3) (a4 : A4) (a5 : A5) (a6 : A6) (a7 : A7) (a8 : A8) (a9 : A9) (a10 : A10) (a11 : A11) (a12 : A12) (a13 : A13), I a1 a2 a3 a4 a5 a6 a7 a8 a9 a10 a11 a12 a13 → (∀ (b1 : A1) (b2 : A2) (b3 : A3) (b4 : A4) (b5 : A5) (b6 : A6) (b7 : A7) (b8 : A8) (b9 : A9) (b10 : A10) (b11 : A11) (b12 : A12) (b13 : A13), I b1 b2 b3 b4 b5 b6 b7 b8 b9 b10 b11 b12 b13 → μ b1 b2 b3 b4 b5 b6 b7 b8 b9 b10 b11 b12 b13 < μ a1 a2 a3 a4 a5 a6 a7 a8 a9 a10 a11 a12 a13 → W n b1 b2 b3 b4 b5 b6 b7 b8 b9 b10 b11 b12 b13) → W (n + 1) a1 a2 a3 a4 a5 a6 a7 a8 a9 a10 a11 a12 a13) (a1 : A1) (a2 : A2) (a3 : A3) (a4 : A4) (a5 : A5) (a6 : A6) (a7 : A7) (a8 : A8) (a9 : A9) (a10 : A10) (a11 : A11) (a12 : A12) (a13 : A13) (h : I a1 a2 a3 a4 a5 a6 a7 a8 a9 a10 a11 a12 a13) : ∃ n, W n a1 a2 a3 a4 a5 a6 a7 a8 a9 a10 a11 a12 a13 :=
  loop_m (σ := A1 × A2 × A3 × A4 × A5 × A6 × A7 × A8 × A9 × A10 × A11 × A12 × A13) (fun n s => W n s.1 s.2.1 s.2.2.1 s.2.2.2.1 s.2.2.2.2.1 s.2.2.2.2.2.1 s.2.2.2.2.2.2.1 s.2.2.2.2.2.2.2.1 s.2.2.2.2.2.2.2.2.1 s.2.2.2.2.2.2.2.2.2.1 s.2.2.2.2.2.2.2.2.2.2.1 s.2.2.2.2.2.2.2.2.2.2.2.1 s.2.2.2.2.2.2.2.2.2.2.2.2) (fun s => I s.1 s.2.1 s.2.2.1 s.2.2.2.1 s.2.2.2.2.1 s.2.2.2.2.2.1 s.2.2.2.2.2.2.1 s.2.2.2.2.2.2.2.1 s.2.2.2.2.2.2.2.2.1 s.2.2.2.2.2.2.2.2.2.1 s.2.2.2.2.2.2.2.2.2.2.1 s.2.2.2.2.2.2.2.2.2.2.2.1 s.2.2.2.2.2.2.2.2.2.2.2.2) (fun s => μ s.1 s.2.1 s.2.2.1 s.2.2.2.1 s.2.2.2.2.1 s.2.2.2.2.2.1 s.2.2.2.2.2.2.1 s.2.2.2.2.2.2.2.1 s.2.2.2.2.2.2.2.2.1 s.2.2.2.2.2.2.2.2.2.1 s.2.2.2.2.2.2.2.2.2.2.1 s.2.2.2.2.2.2.2.2.2.2.2.1 s.2.2.2.2.2.2.2.2.2.2.2.2) (fun n s hI hk => hs n s.1 s.2.1 s.2.2.1 s.2.2.2.1 s.2.2.2.2.1 s.2.2.2.2.2.1 s.2.2.2.2.2.2.1 s.2.2.2.2.2.2.2.1 s.2.2.2.2.2.2.2.2.1 s.2.2.2.2.2.2.2.2.2.1 s.2.2.2.2.2.2.2.2.2.2.1 s.2.2.2.2.2.2.2.2.2.2.2.1 s.2.2.2.2.2.2.2.2.2.2.2.2 hI (fun b1 b2 b3 b4 b5 b6 b7 b8 b9 b10 b11 b12 b13 h9 hm => hk (b1, b2, b3, b4, b5, b6, b7, b8, b9, b10, b11, b12, b13) h9 hm)) (a1, a2, a3, a4, a5, a6, a7, a8, a9, a10, a11, a12, a13) h
theorem lp14 {A1 A2 A3 A4 A5 A6 A7 A8 A9 A10 A11 A12 A13 A14 : Type} (W : Nat → A1 → A2 → A3 → A4 → A5 → A6 → A7 → A8 → A9 → A10 → A11 → A12 → A13 → A14 → Prop) (I : A1 → A2 → A3 → A4 → A5 → A6 → A7 → A8 → A9 → A10 → A11 → A12 → A13 → A14 → Prop) (μ : A1 → A2 → A3 → A4 → A5 → A6 → A7 → A8 → A9 → A10 → A11 → A12 → A13 → A14 → Nat) (hs : ∀ (n : Nat) (a1 : A1) (a2 : A2) (a3 : A3) (a4 : A4) (a5 : A5) (a6 : A6) (a7 : A7) (a8 : A8) (a9 : A9) (a10 : A10) (a11 : A11) (a12 : A12) (a13 : A13) (a14 : A14), I a1 a2 a3 a4 a5 a6 a7 a8 a9 a10 a11 a12 a13 a14 → (∀ (b1 : A1) (b2 : A2) (b3 : A3) (b4 : A4) (b5 : A5) (b6 : A6) (b7 : A7) (b8 : A8) (b9 : A9) (b10 : A10) (b11 : A11) (b12 : A12) (b13 : A13) (b14 : A14), I b1 b2 b3 b4 b5 b6 b7 b8 b9 b10 b11 b12 b13 b14 → μ b1 b2 b3 b4 b5 b6 b7 b8 b9 b10 b11 b12 b13 b14 < μ a1 a2 a3 a4 a5 a6 a7 a8 a9 a10 a11 a12 a13 a14 → W n b1 b2 b3 b4 b5 b6 b7 b8 b9 b10 b11 b12 b13 b14) → W (n + 1) a1 a2 a3 a4 a5 a6 a7 a8 a9 a10 a11 a12 a13 a14) (a1 : A1) (a2 : A2) (a3 : A3) (a4 : A4) (a5 : A5) (a6 : A6) (a7 : A7) (a8 : A8) (a9 : A9) (a10 : A10) (a11 : A11) (a12 : A12) (a13 : A13) (a14 : A14) (h : I a1 a2 a3 a4 a5 a6 a7 a8 a9 a10 a11 a12 a13 a14) : ∃ n, W n a1 a2 a3 a4 a5 a6 a7 a8 a9 a10 a11 a12 a13 a14 :=
  loop_m (σ := A1 × A2 × A3 × A4 × A5 × A6 × A7 × A8 × A9 × A10 × A11 × A12 × A13 × A14) (fun n s => W n s.1 s.2.1 s.2.2.1 s.2.2.2.1 s.2.2.2.2.1 s.2.2.2.2.2.1 s.2.2.2.2.2.2.1 s.2.2.2.2.2.2.2.1 s.2.2.2.2.2.2.2.2.1 s.2.2.2.2.2.2.2.2.2.1 s.2.2.2.2.2.2.2.2.2.2.1 s.2.2.2.2.2.2.2.2.2.2.2.1 s.2.2.2.2.2.2.2.2.2.2.2.2.1 s.2.2.2.2.2.2.2.2.2.2.2.2.2) (fun s => I s.1 s.2.1 s.2.2.1 s.2.2.2.1 s.2.2.2.2.1 s.2.2.2.2.2.1 s.2.2.2.2.2.2.1 s.2.2.2.2.2.2.2.1 s.2.2.2.2.2.2.2.2.1 s.2.2.2.2.2.2.2.2.2.1 s.2.2.2.2.2.2.2.2.2.2.1 s.2.2.2.2.2.2.2.2.2.2.2.1 s.2.2.2.2.2.2.2.2.2.2.2.2.1 s.2.2.2.2.2.2.2.2.2.2.2.2.2) (fun s => μ s.1 s.2.1 s.2.2.1 s.2.2.2.1 s.2.2.2.2.1 s.2.2.2.2.2.1 s.2.2.2.2.2.2.1 s.2.2.2.2.2.2.2.1 s.2.2.2.2.2.2.2.2.1 s.2.2.2.2.2.2.2.2.2.1 s.2.2.2.2.2.2.2.2.2.2.1 s.2.2.2.2.2.2.2.2.2.2.2.1 s.2.2.2.2.2.2.2.2.2.2.2.2.1 s.2.2.2.2.2.2.2.2.2.2.2.2.2) (fun n s hI hk => hs n s.1 s.2.1 s.2.2.1 s.2.2.2.1 s.2.2.2.2.1 s.2.2.2.2.2.1 s.2.2.2.2.2.2.1 s.2.2.2.2.2.2.2.1 s.2.2.2.2.2.2.2.2.1 s.2.2.2.2.2.2.2.2.2.1 s.2.2.2.2.2.2.2.2.2.2.1 s.2.2.2.2.2.2.2.2.2.2.2.1 s.2.2.2.2.2.2.2.2.2.2.2.2.1 s.2.2.2.2.2.2.2.2.2.2.2.2.2 hI (fun b1 b2 b3 b4 b5 b6 b7 b8 b9 b10 b11 b12 b13 b14 h9 hm => hk (b1, b2, b3, b4, b5, b6, b7, b8, b9, b10, b11, b12, b13, b14) h9 hm)) (a1, a2, a3, a4, a5, a6, a7, a8, a9, a10, a11, a12, a13, a14) h
theorem lp15 {A1 A2 A3 A4 A5 A6 A7 A8 A9 A10 A11 A12 A13 A14 A15 : Type} (W : Nat → A1 → A2 → A3 → A4 → A5 → A6 → A7 → A8 → A9 → A10 → A11 → A12 → A13 → A14 → A15 → Prop) (I : A1 → A2 → A3 → A4 → A5 → A6 → A7 → A8 → A9 → A10 → A11 → A12 → A13 → A14 → A15 → Prop) (μ : A1 → A2 → A3 → A4 → A5 → A6 → A7 → A8 → A9 → A10 → A11 → A12 → A13 → A14 → A15 → Nat) (hs : ∀ (n : Nat) (a1 : A1) (a2 : A2) (a3 : A3) (a4 : A4) (a5 : A5) (a6 : A6) (a7 : A7) (a8 : A8) (a9 : A9) (a10 : A10) (a11 : A11) (a12 : A12) (a13 : A13) (a14 : A14) (a15 : A15), I a1 a2 a3 a4 a5 a6 a7 a8 a9 a10 a11 a12 a13 a14 a15 → (∀ (b1 : A1) (b2 : A2) (b3 : A3) (b4 : A4) (b5 : A5) (b6 : A6) (b7 : A7) (b8 : A8) (b9 : A9) (b10 : A10) (b11 : A11) (b12 : A12) (b13 : A13) (b14 : A14) (b15 : A15), I b1 b2 b3 b4 b5 b6 b7 b8 b9 b10 b11 b12 b13 b14 b15 → μ b1 b2 b3 b4 b5 b6 b7 b8 b9 b10 b11 b12 b13 b14 b15 < μ a1 a2 a3 a4 a5 a6 a7 a8 a9 a10 a11 a12 a13 a14 a15 → W n b1 b2 b3 b4 b5 b6 b7 b8 b9 b10 b11 b12 b13 b14 b15) → W (n + 1) a1 a2 a3 a4 a5 a6 a7 a8 a9 a10 a11 a12 a13 a14 a15) (a1 : A1) (a2 : A2) (a3 : A3) (a4 : A4) (a5 : A5) (a6 : A6) (a7 : A7) (a8 : A8) (a9 : A9) (a10 : A10) (a11 : A11) (a12 : A12) (a13 : A13) (a14 : A14) (a15 : A15) (h : I a1 a2 a3 a4 a5 a6 a7 a8 a9 a10 a11 a12 a13 a14 a15) : ∃ n, W n a1 a2 a3 a4 a5 a6 a7 a8 a9 a10 a11 a12 a13 a14 a15 :=
  loop_m (σ := A1 × A2 × A3 × A4 × A5 × A6 × A7 × A8 × A9 × A10 × A11 × A12 × A13 × A14 × A15) (fun n s => W n s.1 s.2.1 s.2.2.1 s.2.2.2.1 s.2.2.2.2.1 s.2.2.2.2.2.1 s.2.2.2.2.2.2.1 s.2.2.2.2.2.2.2.1 s.2.2.2.2.2.2.2.2.1 s.2.2.2.2.2.2.2.2.2.1 s.2.2.2.2.2.2.2.2.2.2.1 s.2.2.2.2.2.2.2.2.2.2.2.1 s.2.2.2.2.2.2.2.2.2.2.2.2.1 s.2.2.2.2.2.2.2.2.2.2.2.2.2.1 s.2.2.2.2.2.2.2.2.2.2.2.2.2.2) (fun s => I s.1 s.2.1 s.2.2.1 s.2.2.2.1 s.2.2.2.2.1 s.2.2.2.2.2.1 s.2.2.2.2.2.2.1 s.2.2.2.2.2.2.2.1 s.2.2.2.2.2.2.2.2.1 s.2.2.2.2.2.2.2.2.2.1 s.2.2.2.2.2.2.2.2.2.2.1 s.2.2.2.2.2.2.2.2.2.2.2.1 s.2.2.2.2.2.2.2.2.2.2.2.2.1 s.2.2.2.2.2.2.2.2.2.2.2.2.2.1 s.2.2.2.2.2.2.2.2.2.2.2.2.2.2) (fun s => μ s.1 s.2.1 s.2.2.1 s.2.2.2.1 s.2.2.2.2.1 s.2.2.2.2.2.1 s.2.2.2.2.2.2.1 s.2.2.2.2.2.2.2.1 s.2.2.2.2.2.2.2.2.1 s.2.2.2.2.2.2.2.2.2.1 s.2.2.2.2.2.2.2.2.2.2.1 s.2.2.2.2.2.2.2.2.2.2.2.1 s.2.2.2.2.2.2.2.2.2.2.2.2.1 s.2.2.2.2.2.2.2.2.2.2.2.2.2.1 s.2.2.2.2.2.2.2.2.2.2.2.2.2.2) (fun n s hI hk => hs n s.1 s.2.1 s.2.2.1 s.2.2.2.1 s.2.2.2.2.1 s.2.2.2.2.2.1 s.2.2.2.2.2.2.1 s.2.2.2.2.2.2.2.1 s.2.2.2.2.2.2.2.2.1 s.2.2.2.2.2.2.2.2.2.1 s.2.2.2.2.2.2.2.2.2.2.1 s.2.2.2.2.2.2.2.2.2.2.2.1 s.2.2.2.2.2.2.2.2.2.2.2.2.1 s.2.2.2.2.2.2.2.2.2.2.2.2.2.1 s.2.2.2.2.2.2.2.2.2.2.2.2.2.2 hI (fun b1 b2 b3 b4 b5 b6 b7 b8 b9 b10 b11 b12 b13 b14 b15 h9 hm => hk (b1, b2, b3, b4, b5, b6, b7, b8, b9, b10, b11, b12, b13, b14, b15) h9 hm)) (a1, a2, a3, a4, a5, a6, a7, a8, a9, a10, a11, a12, a13, a14, a15) h
theorem lp16 {A1 A2 A3 A4 A5 A6 A7 A8 A9 A10 A11 A12 A13 A14 A15 A16 : Type} (W : Nat → A1 → A2 → A3 → A4 → A5 → A6 → A7 → A8 → A9 → A10 → A11 → A12 → A13 → A14 → A15 → A16 → Prop) (I : A1 → A2 → A3 → A4 → A5 → A6 → A7 → A8 → A9 → A10 → A11 → A12 → A13 → A14 → A15 → A16 → Prop) (μ : A1 → A2 → A3 → A4 → A5 → A6 → A7 → A8 → A9 → A10 → A11 → A12 → A13 → A14 → A15 → A16 → Nat) (hs : ∀ (n : Nat) (a1 : A1) (a2 : A2) (a3 : A3) (a4 : A4) (a5 : A5) (a6 : A6) (a7 : A7) (a8 : A8) (a9 : A9) (a10 : A10) (a11 : A11) (a12 : A12) (a13 : A13) (a14 : A14) (a15 : A15) (a16 : A16), I a1 a2 a3 a4 a5 a6 a7 a8 a9 a10 a11 a12 a13 a14 a15 a16 → (∀ (b1 : A1) (b2 : A2) (b3 : A3) (b4 : A4) (b5 : A5) (b6 : A6) (b7 : A7) (b8 : A8) (b9 : A9) (b10 : A10) (b11 : A11) (b12 : A12) (b13 : A13) (b14 : A14) (b15 : A15) (b16 : A16), I b1 b2 b3 b4 b5 b6 b7 b8 b9 b10 b11 b12 b13 b14 b15 b16 → μ b1 b2 b3 b4 b5 b6 b7 b8 b9 b10 b11 b12 b13 b14 b15 b16 < μ a1 a2 a3 a4 a5 a6 a7 a8 a9 a10 a11 a12 a13 a14 a15 a16 → W n b1 b2 b3 b4 b5 b6 b7 b8 b9 b10 b11 b12 b13 b14 b15 b16) → W (n + 1) a1 a2 a3 a4 a5 a6 a7 a8 a9 a10 a11 a12 a13 a14 a15 a16) (a1 : A1) (a2 : A2) (a3 : A3) (a4 : A4) (a5 : A5) (a6 : A6) (a7 : A7) (a8 : A8) (a9 : A9) (a10 : A10) (a11 : A11) (a12 : A12) (a13 : A13) (a14 : A14) (a15 : A15) (a16 : A16) (h : I a1 a2 a3 a4 a5 a6 a7 a8 a9 a10 a11 a12 a13 a14 a15 a16) : ∃ n, W n a1 a2 a3 a4 a5 a6 a7 a8 a9 a10 a11 a12 a13 a14 a15 a16 :=
  loop_m (σ := A1 × A2 × A3 × A4 × A5 × A6 × A7 × A8 × A9 × A10 × A11 × A12 × A13 × A14 × A15 × A16) (fun n s => W n s.1 s.2.1 s.2.2.1 s.2.2.2.1 s.2.2.2.2.1 s.2.2.2.2.2.1 s.2.2.2.2.2.2.1 s.2.2.2.2.2.2.2.1 s.2.2.2.2.2.2.2.2.1 s.2.2.2.2.2.2.2.2.2.1 s.2.2.2.2.2.2.2.2.2.2.1 s.2.2.2.2.2.2.2.2.2.2.2.1 s.2.2.2.2.2.2.2.2.2.2.2.2.1 s.2.2.2.2.2.2.2.2.2.2.2.2.2.1 s.2.2.2.2.2.2.2.2.2.2.2.2.2.2.1 s.2.2.2.2.2.2.2.2.2.2.2.2.2.2.2) (fun s => I s.1 s.2.1 s.2.2.1 s.2.2.2.1 s.2.2.2.2.1 s.2.2.2.2.2.1 s.2.2.2.2.2.2.1 s.2.2.2.2.2.2.2.1 s.2.2.2.2.2.2.2.2.1 s.2.2.2.2.2.2.2.2.2.1 s.2.2.2.2.2.2.2.2.2.2.1 s.2.2.2.2.2.2.2.2.2.2.2.1 s.2.2.2.2.2.2.2.2.2.2.2.2.1 s.2.2.2.2.2.2.2.2.2.2.2.2.2.1 s.2.2.2.2.2.2.2.2.2.2.2.2.2.2.1 s.2.2.2.2.2.2.2.2.2.2.2.2.2.2.2) (fun s => μ s.1 s.2.1 s.2.2.1 s.2.2.2.1 s.2.2.2.2.1 s.2.2.2.2.2.1 s.2.2.2.2.2.2.1 s.2.2.2.2.2.2.2.1 s.2.2.2.2.2.2.2.2.1 s.2.2.2.2.2.2.2.2.2.1 s.2.2.2.2.2.2.2.2.2.2.1 s.2.2.2.2.2.2.2.2.2.2.2.1 s.2.2.2.2.2.2.2.2.2.2.2.2.1 s.2.2.2.2.2.2.2.2.2.2.2.2.2.1 s.2.2.2.2.2.2.2.2.2.2.2.2.2.2.1 s.2.2.2.2.2.2.2.2.2.2.2.2.2.2.2) (fun n s hI hk => hs n s.1 s.2.1 s.2.2.1 s.2.2.2.1 s.2.2.2.2.1 s.2.2.2.2.2.1 s.2.2.2.2.2.2.1 s.2.2.2.2.2.2.2.1 s.2.2.2.2.2.2.2.2.1 s.2.2.2.2.2.2.2.2.2.1 s.2.2.2.2.2.2.2.2.2.2.1 s.2.2.2.2.2.2.2.2.2.2.2.1 s.2.2.2.2.2.2.2.2.2.2.2.2.1 s.2.2.2.2.2.2.2.2.2.2.2.2.2.1 s.2.2.2.2.2.2.2.2.2.2.2.2.2.2.1 s.2.2.2.2.2.2.2.2.2.2.2.2.2.2.2 hI (fun b1 b2 b3 b4 b5 b6 b7 b8 b9 b10 b11 b12 b13 b14 b15 b16 h9 hm => hk (b1, b2, b3, b4, b5, b6, b7, b8, b9, b10, b11, b12, b13, b14, b15, b16) h9 hm)) (a1, a2, a3, a4, a5, a6, a7, a8, a9, a10, a11, a12, a13, a14, a15, a16) h
theorem pk_least (P : Nat → Prop) (h : ∃ k, P k) : ∃ k, P k ∧ ∀ j, j < k → ¬ P j := by
  obtain ⟨k, hk⟩ := h
  induction k using Nat.strongRecOn with
  | ind k ih =>
    by_cases e : ∃ j, j < k ∧ P j
    · obtain ⟨j, hj, pj⟩ := e
      exact ih j hj pj
    · exact ⟨k, hk, fun j hj pj => e ⟨j, hj, pj⟩⟩
theorem rp1 {ρ A1 : Type} (W : Nat → (ρ → Prop) → A1 → Prop) (ok : A1 → Prop) (μ : A1 → Nat) (val : A1 → ρ)
    (hs : ∀ (d : Nat) (post : ρ → Prop) (a1 : A1), ok a1 → post (val a1) → (∀ (post' : ρ → Prop) (b1 : A1), ok b1 → μ b1 < μ a1 → post' (val b1) → W d post' b1) → W (d + 1) post a1) :
    ∀ (d : Nat) (post : ρ → Prop) (a1 : A1), ok a1 → μ a1 < d → post (val a1) → W d post a1 := by
  intro d
  induction d with
  | zero => intro post a1 _ h; omega
  | succ d ih =>
    intro post a1 ho hm hp
    exact hs d post a1 ho hp (fun post' b1 ho' hm' hp' => ih post' b1 ho' (by omega) hp')
theorem rp2 {ρ A1 A2 : Type} (W : Nat → (ρ → Prop) → A1 → A2 → Prop) (ok : A1 → A2 → Prop) (μ : A1 → A2 → Nat) (val : A1 → A2 → ρ)
    (hs : ∀ (d : Nat) (post : ρ → Prop) (a1 : A1) (a2 : A2), ok a1 a2 → post (val a1 a2) → (∀ (post' : ρ → Prop) (b1 : A1) (b2 : A2), ok b1 b2 → μ b1 b2 < μ a1 a2 → post' (val b1 b2) → W d post' b1 b2) → W (d + 1) post a1 a2) :
    ∀ (d : Nat) (post : ρ → Prop) (a1 : A1) (a2 : A2), ok a1 a2 → μ a1 a2 < d → post (val a1 a2) → W d post a1 a2 := by
  intro d
  induction d with
  | zero => intro post a1 a2 _ h; omega
  | succ d ih =>
    intro post a1 a2 ho hm hp
    exact hs d post a1 a2 ho hp (fun post' b1 b2 ho' hm' hp' => ih post' b1 b2 ho' (by omega) hp')
theorem rp3 {ρ A1 A2 A3 : Type} (W : Nat → (ρ → Prop) → A1 → A2 → A3 → Prop) (ok : A1 → A2 → A3 → Prop) (μ : A1 → A2 → A3 → Nat) (val : A1 → A2 → A3 → ρ)
    (hs : ∀ (d : Nat) (post : ρ → Prop) (a1 : A1) (a2 : A2) (a3 : A3), ok a1 a2 a3 → post (val a1 a2 a3) → (∀ (post' : ρ → Prop) (b1 : A1) (b2 : A2) (b3 : A3), ok b1 b2 b3 → μ b1 b2 b3 < μ a1 a2 a3 → post' (val b1 b2 b3) → W d post' b1 b2 b3) → W (d + 1) post a1 a2 a3) :
    ∀ (d : Nat) (post : ρ → Prop) (a1 : A1) (a2 : A2) (a3 : A3), ok a1 a2 a3 → μ a1 a2 a3 < d → post (val a1 a2 a3) → W d post a1 a2 a3 := by
  intro d
  induction d with
  | zero => intro post a1 a2 a3 _ h; omega
  | succ d ih =>
    intro post a1 a2 a3 ho hm hp
    exact hs d post a1 a2 a3 ho hp (fun post' b1 b2 b3 ho' hm' hp' => ih post' b1 b2 b3 ho' (by omega) hp')
theorem rp4 {ρ A1 A2 A3 A4 : Type} (W : Nat → (ρ → Prop) → A1 → A2 → A3 → A4 → Prop) (ok : A1 → A2 → A3 → A4 → Prop) (μ : A1 → A2 → A3 → A4 → Nat) (val : A1 → A2 → A3 → A4 → ρ)
    (hs : ∀ (d : Nat) (post : ρ → Prop) (a1 : A1) (a2 : A2) (a3 : A3) (a4 : A4), ok a1 a2 a3 a4 → post (val a1 a2 a3 a4) → (∀ (post' : ρ → Prop) (b1 : A1) (b2 : A2) (b3 : A3) (b4 : A4), ok b1 b2 b3 b4 → μ b1 b2 b3 b4 < μ a1 a2 a3 a4 → post' (val b1 b2 b3 b4) → W d post' b1 b2 b3 b4) → W (d + 1) post a1 a2 a3 a4) :
    ∀ (d : Nat) (post : ρ → Prop) (a1 : A1) (a2 : A2) (a3 : A3) (a4 : A4), ok a1 a2 a3 a4 → μ a1 a2 a3 a4 < d → post (val a1 a2 a3 a4) → W d post a1 a2 a3 a4 := by
  intro d
  induction d with
  | zero => intro post a1 a2 a3 a4 _ h; omega
  | succ d ih =>
    intro post a1 a2 a3 a4 ho hm hp
    exact hs d post a1 a2 a3 a4 ho hp (fun post' b1 b2 b3 b4 ho' hm' hp' => ih post' b1 b2 b3 b4 ho' (by omega) hp')
theorem rp5 {ρ A1 A2 A3 A4 A5 : Type} (W : Nat → (ρ → Prop) → A1 → A2 → A3 → A4 → A5 → Prop) (ok : A1 → A2 → A3 → A4 → A5 → Prop) (μ : A1 → A2 → A3 → A4 → A5 → Nat) (val : A1 → A2 → A3 → A4 → A5 → ρ)
    (hs : ∀ (d : Nat) (post : ρ → Prop) (a1 : A1) (a2 : A2) (a3 : A3) (a4 : A4) (a5 : A5), ok a1 a2 a3 a4 a5 → post (val a1 a2 a3 a4 a5) → (∀ (post' : ρ → Prop) (b1 : A1) (b2 : A2) (b3 : A3) (b4 : A4) (b5 : A5), ok b1 b2 b3 b4 b5 → μ b1 b2 b3 b4 b5 < μ a1 a2 a3 a4 a5 → post' (val b1 b2 b3 b4 b5) → W d post' b1 b2 b3 b4 b5) → W (d + 1) post a1 a2 a3 a4 a5) :
    ∀ (d : Nat) (post : ρ → Prop) (a1 : A1) (a2 : A2) (a3 : A3) (a4 : A4) (a5 : A5), ok a1 a2 a3 a4 a5 → μ a1 a2 a3 a4 a5 < d → post (val a1 a2 a3 a4 a5) → W d post a1 a2 a3 a4 a5 := by
  intro d
  induction d with
  | zero => intro post a1 a2 a3 a4 a5 _ h; omega
  | succ d ih =>
    intro post a1 a2 a3 a4 a5 ho hm hp
    exact hs d post a1 a2 a3 a4 a5 ho hp (fun post' b1 b2 b3 b4 b5 ho' hm' hp' => ih post' b1 b2 b3 b4 b5 ho' (by omega) hp')
theorem rp6 {ρ A1 A2 A3 A4 A5 A6 : Type} (W : Nat → (ρ → Prop) → A1 → A2 → A3 → A4 → A5 → A6 → Prop) (ok : A1 → A2 → A3 → A4 → A5 → A6 → Prop) (μ : A1 → A2 → A3 → A4 → A5 → A6 → Nat) (val : A1 → A2 → A3 → A4 → A5 → A6 → ρ)
    (hs : ∀ (d : Nat) (post : ρ → Prop) (a1 : A1) (a2 : A2) (a3 : A3) (a4 : A4) (a5 : A5) (a6 : A6), ok a1 a2 a3 a4 a5 a6 → post (val a1 a2 a3 a4 a5 a6) → (∀ (post' : ρ → Prop) (b1 : A1) (b2 : A2) (b3 : A3) (b4 : A4) (b5 : A5) (b6 : A6), ok b1 b2 b3 b4 b5 b6 → μ b1 b2 b3 b4 b5 b6 < μ a1 a2 a3 a4 a5 a6 → post' (val b1 b2 b3 b4 b5 b6) → W d post' b1 b2 b3 b4 b5 b6) → W (d + 1) post a1 a2 a3 a4 a5 a6) :
    ∀ (d : Nat) (post : ρ → Prop) (a1 : A1) (a2 : A2) (a3 : A3) (a4 : A4) (a5 : A5) (a6 : A6), ok a1 a2 a3 a4 a5 a6 → μ a1 a2 a3 a4 a5 a6 < d → post (val a1 a2 a3 a4 a5 a6) → W d post a1 a2 a3 a4 a5 a6 := by
  intro d
  induction d with
  | zero => intro post a1 a2 a3 a4 a5 a6 _ h; omega
  | succ d ih =>
    intro post a1 a2 a3 a4 a5 a6 ho hm hp
    exact hs d post a1 a2 a3 a4 a5 a6 ho hp (fun post' b1 b2 b3 b4 b5 b6 ho' hm' hp' => ih post' b1 b2 b3 b4 b5 b6 ho' (by omega) hp')
theorem rec_p {σ ρ : Type} (W : Nat → (ρ → Prop) → σ → Prop) (ok : σ → Prop) (μ : σ → Nat) (val : σ → ρ)
    (hs : ∀ d s post, ok s → post (val s) → (∀ s' post', ok s' → μ s' < μ s → post' (val s') → W d post' s') → W (d + 1) post s) :
    ∀ d s post, ok s → μ s < d → post (val s) → W d post s := by
  intro d
  induction d with
  | zero => intro s post _ h; omega
  | succ d ih =>
    intro s post ho hm hp
    exact hs d s post ho hp (fun s' post' ho' hm' hp' => ih s' post' ho' (by omega) hp')
theorem rec_q {σ ρ : Type} (W : Nat → (ρ → Prop) → σ → Prop) (ok : σ → Prop) (μ : σ → Nat) (Q : σ → ρ → Prop)
    (hs : ∀ d s post, ok s → (∀ r, Q s r → post r) → (∀ s' post', ok s' → μ s' < μ s → (∀ r, Q s' r → post' r) → W d post' s') → W (d + 1) post s) :
    ∀ d s post, ok s → μ s < d → (∀ r, Q s r → post r) → W d post s := by
  intro d
  induction d with
  | zero => intro s post _ h; omega
  | succ d ih =>
    intro s post ho hm hp
    exact hs d s post ho hp (fun s' post' ho' hm' hp' => ih s' post' ho' (by omega) hp')
def bx_sum (f : Nat → Int32) : Nat → Int32
  | 0 => 0
  | n + 1 => bx_sum f n + f n
theorem ek_u {A : Prop} {B : Nat → Prop} {k N : Nat} (hk : k < N) (h : B k) : (some k = none → A) ∧ (∀ y : Nat, some k = some y → (y < N ∧ B y)) :=
  ⟨fun z => absurd z (Option.some_ne_none k), fun _ e => (by cases e; exact ⟨hk, h⟩)⟩
theorem ek_nu {A : Prop} {B : Nat → Prop} (h : A) : ((none : Option Nat) = none → A) ∧ (∀ y : Nat, (none : Option Nat) = some y → B y) :=
  ⟨fun _ => h, fun _ e => (by cases e)⟩
theorem ek_if {c d A B : Prop} (e : c ↔ d) (f : d → A) (g : ¬ d → B) : (c → A) ∧ (¬ c → B) :=
  ⟨fun z => f (e.mp z), fun z => g (fun y => z (e.mpr y))⟩
theorem ek_v {α : Sort _} {P : α → Prop} {a b : α} (e : a = b) (h : P b) : P a := e ▸ h
theorem co_some {x : Option Nat} {A : Prop} {B : Nat → Prop} (i : Nat) (h : B i) (hx : x = some i := by rfl) : (x = none → A) ∧ (∀ y : Nat, x = some y → B y) := by
  subst hx
  exact ⟨fun e => (nomatch e), fun y e => Option.some.inj e ▸ h⟩
theorem co_none {x : Option Nat} {A : Prop} {B : Nat → Prop} (h : A) (hx : x = none := by rfl) : (x = none → A) ∧ (∀ y : Nat, x = some y → B y) := by
  subst hx
  exact ⟨fun _ => h, fun y e => (nomatch e)⟩
theorem co_any {x : Option Nat} {A : Prop} {B : Nat → Prop} (hn : x = none → A) (hs : ∀ i : Nat, x = some i → B i) : (x = none → A) ∧ (∀ y : Nat, x = some y → B y) := ⟨hn, hs⟩
theorem co_2 {P : Nat → Prop} (h0 : P 0) (h1 : P 1) {i : Nat} (hi : i < 2) : P i :=
  match i, hi with
  | 0, _ => h0
  | 1, _ => h1
theorem co_3 {P : Nat → Prop} (h0 : P 0) (h1 : P 1) (h2 : P 2) {i : Nat} (hi : i < 3) : P i :=
  match i, hi with
  | 0, _ => h0
  | 1, _ => h1
  | 2, _ => h2
theorem co_4 {P : Nat → Prop} (h0 : P 0) (h1 : P 1) (h2 : P 2) (h3 : P 3) {i : Nat} (hi : i < 4) : P i :=
  match i, hi with
  | 0, _ => h0
  | 1, _ => h1
  | 2, _ => h2
  | 3, _ => h3
theorem co_dec {N : Nat} {P : Nat → Prop} [DecidablePred P] (h : (List.range N).all (fun i => decide (P i)) = true) {i : Nat} (hi : i < N) : P i := by
  have := List.all_eq_true.mp h i (List.mem_range.mpr hi)
  exact of_decide_eq_true this
theorem co_tab {α : Type} {l : List α} {d : α} {P : α → Prop} (h : ∀ a, a ∈ l → P a) {i : Nat} (hi : i < l.length) : P (l.getD i d) := by
  rw [List.getD_eq_getElem?_getD, List.getElem?_eq_getElem hi]
  exact h _ (List.getElem_mem hi)
theorem pk_mu {x : Int32} {L : Nat} (h0 : ¬ x < 0) (h : ¬ nI L ≤ x) (hL : L < 2 ^ 31) : ∃ j : Nat, j < L ∧ x = nI j ∧ x + 1 = nI (j + 1) ∧ x.toNatClampNeg = j ∧ L - (x + 1).toNatClampNeg < L - x.toNatClampNeg := by
  obtain ⟨j, hj, rfl⟩ := nI_of h0
  have hl : j < L := Nat.not_le.mp fun q => h (nI_le q hj)
  refine ⟨j, hl, rfl, nI_1 j, nI_clamp hj, ?_⟩
  rw [nI_1, nI_clamp (by omega), nI_clamp hj]
  omega
theorem op_s {α : Type} {r : Option α} {A : Prop} {B : α → Prop} {y : α} (h : r = some y) (b : B y) : (r = none → A) ∧ ∀ z, r = some z → B z :=
  ⟨fun e => (by rw [h] at e; cases e), fun z e => (by rw [h] at e; cases e; exact b)⟩
def l_holds {α : Type} (a : Nat → Option Nat) (LP : List Nat) (p : Nat → α) (c : Nat) (b : Nat → α) : Prop :=
  ∀ j, j < c → ∃ y, a j = some y ∧ y ∈ LP ∧ p y = b j
theorem l_holds_0 {α : Type} {a : Nat → Option Nat} {LP : List Nat} {p b : Nat → α} : l_holds a LP p 0 b := fun j h => absurd h (Nat.not_lt_zero j)
theorem l_in_new (LP : List Nat) (q : Nat) : q ∈ LP ++ [q] := List.mem_append.mpr (Or.inr (List.mem_singleton.mpr rfl))
def l_sum (b : Nat → Int32) : Nat → Int32
  | 0 => 0
  | k + 1 => l_sum b k + b k
theorem sb_shr0 (x : Int32) : x >>> ((0 : Int32) &&& 31) = x := by
  rw [show ((0 : Int32) &&& 31) = 0 by decide]
  simp
theorem sb_shl0 (x : Int32) : x <<< ((0 : Int32) &&& 31) = x := by
  rw [show ((0 : Int32) &&& 31) = 0 by decide]
  simp
theorem sb_cl0 : (0 : Int32).toNatClampNeg = 0 := by decide
theorem sb_m1 {p : Nat} (h : 0 < p) : nI p + (-1) = nI (p - 1) := by
  obtain ⟨q, rfl⟩ : ∃ q, p = q + 1 := ⟨p - 1, by omega⟩
  exact pk_m1 q
def sb_b (c : Nat) : Int32 := (nI c).toInt8.toInt32
theorem sb_byte : ∀ c, c < 256 → sb_b c &&& 255 = nI c ∧ ((nI c).toUInt32 % 65536).toInt32 = nI c ∧ nI c ≤ 255 := by decide +kernel
def sb_Fit (a : Nat → Int32) : Prop := ∀ j, fits .byte (.int (a j)) = true
def sb_Lat (t : Nat → Nat) (n : Nat) (a : Nat → Int32) : Prop := ∀ j, j < n → t j < 256 ∧ a j = sb_b (t j)
theorem sb_fitB (c : Nat) : fits .byte (.int (sb_b c)) = true := pk_fb _
theorem sb_fit0 : sb_Fit (fun _ => 0) := fun _ => by
  show fits .byte (.int 0) = true
  decide
theorem sb_fitU {a : Nat → Int32} {k : Nat} {x : Int32} (h : sb_Fit a) (hx : fits .byte (.int x) = true) : sb_Fit (upd a k x) := by
  intro j
  by_cases e : j = k
  · subst e
    rw [pk_us]
    exact hx
  · rw [pk_un e]
    exact h j
def sb_cat (t : Nat → Nat) (n : Nat) (s : Nat → Nat) : Nat → Nat := fun j => if j < n then t j else s (j - n)
theorem sb_cat_lo {t s : Nat → Nat} {n j : Nat} (h : j < n) : sb_cat t n s j = t j := if_pos h
theorem sb_cat_hi {t s : Nat → Nat} {n j : Nat} : sb_cat t n s (n + j) = s j := by
  show (if n + j < n then t (n + j) else s (n + j - n)) = s j
  rw [if_neg (by omega), Nat.add_sub_cancel_left]
theorem sb_latPut {t s : Nat → Nat} {n w : Nat} {a a' : Nat → Int32} (h : sb_Lat t n a) (hk : ∀ j, j < n → a' j = a j) (hs : ∀ i, i < w → s i < 256 ∧ a' (n + i) = sb_b (s i)) : sb_Lat (sb_cat t n s) (n + w) a' := by
  intro j hj
  by_cases e : j < n
  · rw [sb_cat_lo e, hk j e]
    exact h j e
  · obtain ⟨i, rfl⟩ : ∃ i, j = n + i := ⟨j - n, by omega⟩
    rw [sb_cat_hi]
    exact hs i (by omega)
theorem sb_latKeep {t : Nat → Nat} {n : Nat} {a a' : Nat → Int32} (h : sb_Lat t n a) (hk : ∀ j, j < n → a' j = a j) : sb_Lat t n a' := fun j hj => by
  rw [hk j hj]
  exact h j hj
def sb_cap (q m : Nat) : Nat := if q ≤ m then m else if 2 * m + 2 < q then q else 2 * m + 2
def sb_Room (q m mc ms : Nat) : Prop := q ≤ m ∨ (1 ≤ mc ∧ sb_cap q m ≤ ms ∧ sb_cap q m ≤ 65536)
theorem sb_cap_ge (q m : Nat) : q ≤ sb_cap q m := by
  unfold sb_cap
  split
  · omega
  · split <;> omega
theorem sb_cap_gem (q m : Nat) : m ≤ sb_cap q m := by
  unfold sb_cap
  split
  · omega
  · split <;> omega
theorem sb_cap_le {q m mc ms : Nat} (hm : m ≤ 65536) (hr : sb_Room q m mc ms) : sb_cap q m ≤ 65536 := by
  rcases hr with h | h
  · rw [sb_cap, if_pos h]
    exact hm
  · exact h.2.2
theorem sb_at {P : Int32 → Prop} {x y : Int32} (e : x = y) (h : P y) : P x := e ▸ h
def sb_dg (w : Nat) : Nat := if w < 10 then 1 else if w < 100 then 2 else if w < 1000 then 3 else if w < 10000 then 4 else if w < 100000 then 5 else if w < 1000000 then 6 else if w < 10000000 then 7 else if w < 100000000 then 8 else if w < 1000000000 then 9 else 10
def sb_dec (v : Nat) : Nat → Nat := fun i => 48 + v / 10 ^ (sb_dg v - 1 - i) % 10
theorem sb_dg_in (w : Nat) : 1 ≤ sb_dg w ∧ sb_dg w ≤ 10 := by
  unfold sb_dg
  constructor <;> (repeat' split) <;> omega
theorem sb_dg100 {w : Nat} (h : 100 ≤ w) (hw : w < 2 ^ 31) : sb_dg w = sb_dg (w / 100) + 2 := by
  rw [sb_dg, sb_dg, if_neg (show ¬ w < 10 by omega), if_neg (show ¬ w < 100 by omega)]
  by_cases h3 : w < 1000
  · rw [if_pos h3, if_pos (show w / 100 < 10 by omega)]
  rw [if_neg h3, if_neg (show ¬ w / 100 < 10 by omega)]
  by_cases h4 : w < 10000
  · rw [if_pos h4, if_pos (show w / 100 < 100 by omega)]
  rw [if_neg h4, if_neg (show ¬ w / 100 < 100 by omega)]
  by_cases h5 : w < 100000
  · rw [if_pos h5, if_pos (show w / 100 < 1000 by omega)]
  rw [if_neg h5, if_neg (show ¬ w / 100 < 1000 by omega)]
  by_cases h6 : w < 1000000
  · rw [if_pos h6, if_pos (show w / 100 < 10000 by omega)]
  rw [if_neg h6, if_neg (show ¬ w / 100 < 10000 by omega)]
  by_cases h7 : w < 10000000
  · rw [if_pos h7, if_pos (show w / 100 < 100000 by omega)]
  rw [if_neg h7, if_neg (show ¬ w / 100 < 100000 by omega)]
  by_cases h8 : w < 100000000
  · rw [if_pos h8, if_pos (show w / 100 < 1000000 by omega)]
  rw [if_neg h8, if_neg (show ¬ w / 100 < 1000000 by omega)]
  by_cases h9 : w < 1000000000
  · rw [if_pos h9, if_pos (show w / 100 < 10000000 by omega)]
  rw [if_neg h9, if_neg (show ¬ w / 100 < 10000000 by omega)]
  rw [if_pos (show w / 100 < 100000000 by omega)]
theorem sb_negT {w : Nat} (h : w < 2 ^ 31) : (-nI w).toInt = -(w : Int) := by
  rw [Int32.toInt_neg, nI_toInt h]
  exact Int.bmod_eq_of_le (by omega) (by omega)
theorem sb_nle {a b : Nat} (ha : a < 2 ^ 31) (hb : b < 2 ^ 31) : -nI a ≤ -nI b ↔ b ≤ a := by
  rw [Int32.le_iff_toInt_le, sb_negT ha, sb_negT hb]
  omega
theorem sb_nlt {a b : Nat} (ha : a < 2 ^ 31) (hb : b < 2 ^ 31) : -nI a < -nI b ↔ b < a := by
  rw [Int32.lt_iff_toInt_lt, sb_negT ha, sb_negT hb]
  omega
theorem sb_cmp {A B : Prop} {x : Int32} (v c : Nat) (f : c ≤ v → A) (g : v < c → B) (hv : v < 2 ^ 31) (hx : x = -nI c := by rfl) (hc : c < 2 ^ 31 := by omega) : (-nI v ≤ x → A) ∧ (¬ -nI v ≤ x → B) := by
  subst hx
  rw [sb_nle hv hc]
  exact ⟨f, fun z => g (by omega)⟩
theorem sb_ndiv {w : Nat} (hw : w < 2 ^ 31) : (-nI w) / 100 = -nI (w / 100) := by
  apply Int32.toInt_inj.mp
  have h100 : (100 : Int32).toInt = 100 := by decide
  rw [Int32.toInt_div, sb_negT hw, h100, sb_negT (by omega), Int.neg_tdiv, Int.tdiv_eq_ediv_of_nonneg (by omega), Int.bmod_eq_of_le (by omega) (by omega)]
  omega
theorem sb_nrem {w : Nat} (hw : w < 2 ^ 31) : (-nI (w / 100)) * 100 - (-nI w) = nI (w % 100) := by
  have h := pk_rem (a := w) (d := 100) hw (by decide) (by decide)
  rw [pk_div hw (by decide) (by decide)] at h
  rw [← h]
  show (-nI (w / 100)) * nI 100 - (-nI w) = nI w - nI (w / 100) * nI 100
  rw [Int32.neg_mul, Int32.sub_neg, Int32.add_comm, ← Int32.sub_eq_add_neg]
/-! rows on bits, shifts and unsigned numbers, to paste: each family out of a closed proof of our own, whole with what it rests on; each by itself clean at Lean in its own claim (generation 39, form 5). Take a family whole -/
/-! ===== Int32 by its bits: bt x i ===== -/
def bt (x : Int32) (i : Nat) : Bool := x.toBitVec.getLsbD i
theorem b_ext {x y : Int32} (h : ∀ i, i < 32 → bt x i = bt y i) : x = y := Int32.toBitVec_inj.mp (BitVec.eq_of_getLsbD_eq (fun i hi => h i hi))
theorem b_or (x y : Int32) (i : Nat) : bt (x ||| y) i = (bt x i || bt y i) := by unfold bt; rw [Int32.toBitVec_or, BitVec.getLsbD_or]
theorem b_and (x y : Int32) (i : Nat) : bt (x &&& y) i = (bt x i && bt y i) := by unfold bt; rw [Int32.toBitVec_and, BitVec.getLsbD_and]
theorem b_xor (x y : Int32) (i : Nat) : bt (x ^^^ y) i = (bt x i ^^ bt y i) := by unfold bt; rw [Int32.toBitVec_xor, BitVec.getLsbD_xor]
theorem b_big {x : Int32} {i : Nat} (h : 32 ≤ i) : bt x i = false := BitVec.getLsbD_of_ge _ _ h
theorem b_255 (i : Nat) : bt 255 i = decide (i < 8) := by
  rcases Nat.lt_or_ge i 32 with h | h
  · exact (by decide +kernel : ∀ i, i < 32 → bt 255 i = decide (i < 8)) i h
  · rw [b_big h, decide_eq_false (by omega)]
theorem b_65535 (i : Nat) : bt 65535 i = decide (i < 16) := by
  rcases Nat.lt_or_ge i 32 with h | h
  · exact (by decide +kernel : ∀ i, i < 32 → bt 65535 i = decide (i < 16)) i h
  · rw [b_big h, decide_eq_false (by omega)]
theorem b_m1 : ∀ i, i < 32 → bt (-1) i = true := by decide +kernel
theorem b_0 (i : Nat) : bt 0 i = false := BitVec.getLsbD_zero
theorem s_l : ∀ n, n < 32 → ((nI n &&& 31).toBitVec.smod 32).toNat = n := by decide +kernel
theorem s_u : ∀ n, n < 32 → (((nI n).toUInt32 &&& Int32.toUInt32 31).toBitVec % 32).toNat = n := by decide +kernel
theorem b_shl (n : Nat) (hn : n < 32) (x : Int32) {i : Nat} (hi : i < 32) : bt (x <<< (nI n &&& 31)) i = (decide (n ≤ i) && bt x (i - n)) := by
  unfold bt
  rw [Int32.toBitVec_shiftLeft]
  show (x.toBitVec <<< ((nI n &&& 31).toBitVec.smod 32).toNat).getLsbD i = _
  rw [s_l n hn, BitVec.getLsbD_shiftLeft]
  rcases Nat.lt_or_ge i n with h | h
  · simp [h, Nat.not_le.mpr h]
  · simp [hi, h, Nat.not_lt.mpr h]
theorem b_ushr (n : Nat) (hn : n < 32) (x : Int32) (i : Nat) : bt ((x.toUInt32 >>> ((nI n).toUInt32 &&& Int32.toUInt32 31)).toInt32) i = bt x (n + i) := by
  show (x.toUInt32 >>> ((nI n).toUInt32 &&& Int32.toUInt32 31)).toBitVec.getLsbD i = x.toUInt32.toBitVec.getLsbD (n + i)
  rw [UInt32.toBitVec_shiftRight]
  show (x.toUInt32.toBitVec >>> (((nI n).toUInt32 &&& Int32.toUInt32 31).toBitVec % 32).toNat).getLsbD i = _
  rw [s_u n hn, BitVec.getLsbD_ushiftRight]
theorem b_sshr (n : Nat) (hn : n < 32) (x : Int32) {i : Nat} (hi : i < 32) : bt (x >>> (nI n &&& 31)) i = if n + i < 32 then bt x (n + i) else bt x 31 := by
  unfold bt
  rw [Int32.toBitVec_shiftRight]
  show (x.toBitVec.sshiftRight ((nI n &&& 31).toBitVec.smod 32).toNat).getLsbD i = _
  rw [s_l n hn, BitVec.getLsbD_sshiftRight, BitVec.msb_eq_getLsbD_last]
  simp [hi]
theorem b_shl8 (x : Int32) {i : Nat} (hi : i < 32) : bt (x <<< ((8 : Int32) &&& 31)) i = (decide (8 ≤ i) && bt x (i - 8)) := b_shl 8 (by omega) x hi
theorem b_shl16 (x : Int32) {i : Nat} (hi : i < 32) : bt (x <<< ((16 : Int32) &&& 31)) i = (decide (16 ≤ i) && bt x (i - 16)) := b_shl 16 (by omega) x hi
theorem b_shl24 (x : Int32) {i : Nat} (hi : i < 32) : bt (x <<< ((24 : Int32) &&& 31)) i = (decide (24 ≤ i) && bt x (i - 24)) := b_shl 24 (by omega) x hi
theorem b_sshr8 (x : Int32) {i : Nat} (hi : i < 32) : bt (x >>> ((8 : Int32) &&& 31)) i = if 8 + i < 32 then bt x (8 + i) else bt x 31 := b_sshr 8 (by omega) x hi
end
section
/-! ===== the bits of a long, counts, first places ===== -/
/-- bit i of a long -/
def eb_t (x : Int64) (i : Nat) : Bool := x.toBitVec.getLsbD i
theorem eb_big {x : Int64} {i : Nat} (h : 64 ≤ i) : eb_t x i = false := BitVec.getLsbD_of_ge _ _ h
theorem eb_lt {x : Int64} {i : Nat} (h : eb_t x i = true) : i < 64 := by
  rcases Nat.lt_or_ge i 64 with z | z
  · exact z
  · rw [eb_big z] at h; cases h
theorem eb_ext {x y : Int64} (h : ∀ i, i < 64 → eb_t x i = eb_t y i) : x = y := Int64.toBitVec_inj.mp (BitVec.eq_of_getLsbD_eq (fun i hi => h i hi))
theorem eb_or (x y : Int64) (i : Nat) : eb_t (x ||| y) i = (eb_t x i || eb_t y i) := by unfold eb_t; rw [Int64.toBitVec_or, BitVec.getLsbD_or]
theorem eb_and (x y : Int64) (i : Nat) : eb_t (x &&& y) i = (eb_t x i && eb_t y i) := by unfold eb_t; rw [Int64.toBitVec_and, BitVec.getLsbD_and]
theorem eb_xor (x y : Int64) (i : Nat) : eb_t (x ^^^ y) i = (eb_t x i ^^ eb_t y i) := by unfold eb_t; rw [Int64.toBitVec_xor, BitVec.getLsbD_xor]
theorem eb_0 (i : Nat) : eb_t 0 i = false := BitVec.getLsbD_zero
theorem eb_m1 : ∀ i, i < 64 → eb_t (-1) i = true := by decide +kernel
theorem eb_1a : ∀ i, i < 64 → eb_t 1 i = decide (i = 0) := by decide +kernel
theorem eb_1 (i : Nat) : eb_t 1 i = decide (i = 0) := by
  rcases Nat.lt_or_ge i 64 with h | h
  · exact eb_1a i h
  · rw [eb_big h, decide_eq_false (by omega)]
theorem eb_not (x : Int64) {i : Nat} (hi : i < 64) : eb_t (x ^^^ (-1)) i = !eb_t x i := by
  rw [eb_xor, eb_m1 i hi, Bool.xor_true]
theorem eb_sl : ∀ n, n < 64 → (((nI n).toInt64 &&& 63).toBitVec.smod 64).toNat = n := by decide +kernel
theorem eb_b1 : ∀ l, l < 64 → ((1 : Int64) <<< ((nI l).toInt64 &&& 63)).toBitVec = BitVec.twoPow 64 l := by decide +kernel
theorem eb_bit {j : Nat} (hj : j < 64) (i : Nat) : eb_t ((1 : Int64) <<< ((nI j).toInt64 &&& 63)) i = decide (i = j) := by
  unfold eb_t
  rw [eb_b1 j hj, BitVec.getLsbD_twoPow, decide_eq_true hj, Bool.true_and]
  exact decide_eq_decide.mpr ⟨fun z => z.symm, fun z => z.symm⟩
theorem eb_shv {j : Nat} (hj : j < 64) (x : Int64) : ((x >>> ((nI j).toInt64 &&& 63)) &&& 1) = if eb_t x j = true then 1 else 0 := by
  apply eb_ext
  intro i hi
  have e : eb_t (x >>> ((nI j).toInt64 &&& 63)) i = if j + i < 64 then eb_t x (j + i) else eb_t x 63 := by
    unfold eb_t
    rw [Int64.toBitVec_shiftRight]
    show (x.toBitVec.sshiftRight (((nI j).toInt64 &&& 63).toBitVec.smod 64).toNat).getLsbD i = _
    rw [eb_sl j hj, BitVec.getLsbD_sshiftRight, BitVec.msb_eq_getLsbD_last]
    simp [hi]
  rw [eb_and, eb_1, e]
  by_cases h0 : i = 0
  · subst h0
    rw [if_pos (by omega), Nat.add_zero, decide_eq_true rfl, Bool.and_true]
    cases eb_t x j
    · rw [if_neg (by decide), eb_0]
    · rw [if_pos rfl, eb_1]; rfl
  · rw [decide_eq_false h0, Bool.and_false]
    cases eb_t x j
    · rw [if_neg (by decide), eb_0]
    · rw [if_pos rfl, eb_1, decide_eq_false h0]
theorem eb_shr {j : Nat} (hj : j < 64) (x : Int64) : ((x >>> ((nI j).toInt64 &&& 63)) &&& 1) = 0 ↔ eb_t x j = false := by
  rw [eb_shv hj]
  cases eb_t x j
  · exact ⟨fun _ => rfl, fun _ => rfl⟩
  · exact ⟨fun z => absurd z (by decide), fun z => absurd z (by decide)⟩
theorem eb_shr0 {j : Nat} {x : Int64} (h : eb_t x j = false) (hj : j < 64) : ((x >>> ((nI j).toInt64 &&& 63)) &&& 1) = 0 := (eb_shr hj x).mpr h
theorem eb_shr1 {j : Nat} {x : Int64} (h : eb_t x j = true) : ¬ ((x >>> ((nI j).toInt64 &&& 63)) &&& 1) = 0 := fun z => by
  rw [(eb_shr (eb_lt h) x).mp z] at h; cases h
theorem eb_ne {x : Int64} {e : Nat} (h : eb_t x e = true) : ¬ x = 0 := fun z => by rw [z, eb_0] at h; cases h
theorem eb_all0 {x : Int64} (h : ∀ i, i < 64 → eb_t x i = false) : x = 0 := eb_ext (fun i hi => by rw [h i hi, eb_0])
theorem eb_pw {A P n : Nat} (hd : A + P = n) (hp : 0 < P) (hn : n < 2 ^ 64) : (2 ^ 64 - 1 + n) % 2 ^ 64 = A + (P - 1) := by omega
/-- the lowest bit goes -/
theorem eb_pred {x : Int64} {e : Nat} (he : eb_t x e = true) (hl : ∀ i, i < e → eb_t x i = false) (i : Nat) : eb_t (x &&& (x - 1)) i = (eb_t x i && !decide (i = e)) := by
  have hb : ∀ i, x.toBitVec.toNat.testBit i = eb_t x i := fun i => BitVec.testBit_toNat _
  have hm : x.toBitVec.toNat % 2 ^ (e + 1) = 2 ^ e := by
    apply Nat.eq_of_testBit_eq
    intro i
    rw [Nat.testBit_mod_two_pow, Nat.testBit_two_pow, hb]
    rcases Nat.lt_trichotomy i e with h | h | h
    · rw [hl i h, Bool.and_false, decide_eq_false (by omega)]
    · subst h; rw [he, Bool.and_true, decide_eq_true (by omega), decide_eq_true rfl]
    · rw [decide_eq_false (by omega), Bool.false_and, decide_eq_false (by omega)]
  have hd := Nat.div_add_mod x.toBitVec.toNat (2 ^ (e + 1))
  rw [hm] at hd
  have hpos := Nat.two_pow_pos e
  have hlt : 2 ^ e < 2 ^ (e + 1) := Nat.pow_lt_pow_right (by decide) (Nat.lt_succ_self e)
  have h1 : (x - 1).toBitVec.toNat = 2 ^ (e + 1) * (x.toBitVec.toNat / 2 ^ (e + 1)) + (2 ^ e - 1) := by
    rw [Int64.toBitVec_sub, BitVec.toNat_sub]
    exact eb_pw hd hpos x.toBitVec.isLt
  have k1 : ∀ i, eb_t (x - 1) i = if i < e + 1 then (2 ^ e - 1).testBit i else (x.toBitVec.toNat / 2 ^ (e + 1)).testBit (i - (e + 1)) := by
    intro i
    show (x - 1).toBitVec.getLsbD i = _
    rw [← BitVec.testBit_toNat, h1, Nat.testBit_two_pow_mul_add _ (by omega)]
  have k2 : ∀ i, eb_t x i = if i < e + 1 then (2 ^ e).testBit i else (x.toBitVec.toNat / 2 ^ (e + 1)).testBit (i - (e + 1)) := by
    intro i
    rw [← Nat.testBit_two_pow_mul_add _ hlt, hd, hb]
  rw [eb_and, k1]
  rcases Nat.lt_trichotomy i e with h | h | h
  · rw [hl i h, Bool.false_and, Bool.false_and]
  · subst h
    rw [if_pos (by omega), Nat.testBit_two_pow_sub_one, decide_eq_false (by omega), decide_eq_true rfl, Bool.not_true]
  · rw [if_neg (by omega), k2 i, if_neg (by omega), decide_eq_false (by omega), Bool.not_false, Bool.and_true, Bool.and_self]
theorem eb_low {x : Int64} (h : ¬ x = 0) : ∃ e, e < 64 ∧ eb_t x e = true ∧ ∀ i, i < e → eb_t x i = false := by
  have h1 : ∃ e, eb_t x e = true := by
    apply Classical.byContradiction
    intro z
    apply h
    apply eb_all0
    intro i hi
    cases hb : eb_t x i
    · rfl
    · exact absurd ⟨i, hb⟩ z
  obtain ⟨e, he, hl⟩ := pk_least _ h1
  refine ⟨e, eb_lt he, he, fun i hi => ?_⟩
  have := hl i hi
  cases hb : eb_t x i
  · rfl
  · exact absurd hb this
/-- a loop over the bits of a long, from the lowest on -/
theorem eb_loop {σ : Type} (W : Nat → Int64 → σ → Prop) (x : Int64) (I : Nat → σ → Prop)
    (hx : ∀ i, 48 ≤ i → eb_t x i = false)
    (h0 : ∀ n s, I 48 s → W (n + 1) 0 s)
    (hk : ∀ m s, m < 48 → I m s → eb_t x m = false → I (m + 1) s)
    (hs : ∀ n m s r, m < 48 → I m s → eb_t x m = true → eb_t r m = true → (∀ i, i < m → eb_t r i = false) → (∀ s', I (m + 1) s' → W n (r &&& (r - 1)) s') → W (n + 1) r s) :
    ∀ d m n s r, m + d = 48 → d < n → I m s → (∀ i, eb_t r i = (decide (m ≤ i) && eb_t x i)) → W n r s := by
  intro d
  induction d with
  | zero =>
    intro m n s r hm hn hI hr
    obtain rfl : m = 48 := by omega
    obtain ⟨n, rfl⟩ : ∃ n', n = n' + 1 := ⟨n - 1, by omega⟩
    have z : r = 0 := eb_all0 (fun i _ => by
      rw [hr]
      rcases Nat.lt_or_ge i 48 with h | h
      · rw [decide_eq_false (by omega), Bool.false_and]
      · rw [hx i h, Bool.and_false])
    rw [z]
    exact h0 n s hI
  | succ d ih =>
    intro m n s r hm hn hI hr
    cases hb : eb_t x m
    · refine ih (m + 1) n s r (by omega) (by omega) (hk m s (by omega) hI hb) (fun i => ?_)
      rw [hr]
      rcases Nat.lt_trichotomy i m with h | h | h
      · rw [decide_eq_false (by omega), decide_eq_false (by omega)]
      · subst h; rw [hb, Bool.and_false, Bool.and_false]
      · rw [decide_eq_true (by omega), decide_eq_true (by omega)]
    · obtain ⟨n, rfl⟩ : ∃ n', n = n' + 1 := ⟨n - 1, by omega⟩
      have hrm : eb_t r m = true := by rw [hr, hb, decide_eq_true (Nat.le_refl m)]; rfl
      have hrl : ∀ i, i < m → eb_t r i = false := fun i hi => by rw [hr, decide_eq_false (by omega), Bool.false_and]
      refine hs n m s r (by omega) hI hb hrm hrl (fun s' hs' => ih (m + 1) n s' _ (by omega) (by omega) hs' (fun i => ?_))
      rw [eb_pred hrm hrl, hr]
      rcases Nat.lt_trichotomy i m with h | h | h
      · rw [decide_eq_false (show ¬ m ≤ i by omega), decide_eq_false (show ¬ m + 1 ≤ i by omega), Bool.false_and, Bool.false_and]
      · subst h; rw [decide_eq_true (rfl : i = i), Bool.not_true, Bool.and_false, decide_eq_false (show ¬ i + 1 ≤ i by omega), Bool.false_and]
      · rw [decide_eq_true (show m ≤ i by omega), decide_eq_false (show ¬ i = m by omega), decide_eq_true (show m + 1 ≤ i by omega), Bool.not_false, Bool.and_true]
theorem eb_loop0 {σ : Type} (W : Nat → Int64 → σ → Prop) (x : Int64) (I : Nat → σ → Prop)
    (hx : ∀ i, 48 ≤ i → eb_t x i = false)
    (h0 : ∀ n s, I 48 s → W (n + 1) 0 s)
    (hk : ∀ m s, m < 48 → I m s → eb_t x m = false → I (m + 1) s)
    (hs : ∀ n m s r, m < 48 → I m s → eb_t x m = true → eb_t r m = true → (∀ i, i < m → eb_t r i = false) → (∀ s', I (m + 1) s' → W n (r &&& (r - 1)) s') → W (n + 1) r s) (s : σ) (h : I 0 s) : W 49 x s :=
  eb_loop W x I hx h0 hk hs 48 0 49 s x (by omega) (by omega) h (fun i => by rw [decide_eq_true (Nat.zero_le i), Bool.true_and])
/-! counts below n -/
def et_cn (p : Nat → Bool) : Nat → Nat
  | 0 => 0
  | n + 1 => et_cn p n + (if p n = true then 1 else 0)
theorem et_cn_t {p : Nat → Bool} {n : Nat} (h : p n = true) : et_cn p (n + 1) = et_cn p n + 1 := by
  show et_cn p n + _ = _; rw [if_pos h]
theorem et_cn_f {p : Nat → Bool} {n : Nat} (h : p n = false) : et_cn p (n + 1) = et_cn p n := by
  show et_cn p n + _ = _; rw [if_neg (by rw [h]; decide), Nat.add_zero]
theorem et_cn_le (p : Nat → Bool) (n : Nat) : et_cn p n ≤ n := by
  induction n with
  | zero => exact Nat.le_refl 0
  | succ n ih =>
    cases h : p n
    · rw [et_cn_f h]; omega
    · rw [et_cn_t h]; omega
theorem et_cn_c {p q : Nat → Bool} : ∀ n, (∀ i, i < n → p i = q i) → et_cn p n = et_cn q n := by
  intro n
  induction n with
  | zero => intro _; rfl
  | succ n ih =>
    intro h
    have := ih (fun i hi => h i (by omega))
    have e := h n (by omega)
    cases hq : q n
    · rw [et_cn_f hq, et_cn_f (e.trans hq), this]
    · rw [et_cn_t hq, et_cn_t (e.trans hq), this]
theorem et_cn_mono {p q : Nat → Bool} : ∀ n, (∀ i, i < n → p i = true → q i = true) → et_cn p n ≤ et_cn q n := by
  intro n
  induction n with
  | zero => intro _; exact Nat.le_refl 0
  | succ n ih =>
    intro h
    have := ih (fun i hi => h i (by omega))
    cases hp : p n
    · rw [et_cn_f hp]
      cases hq : q n
      · rw [et_cn_f hq]; omega
      · rw [et_cn_t hq]; omega
    · rw [et_cn_t hp, et_cn_t (h n (by omega) hp)]; omega
theorem et_cn_ins {p q : Nat → Bool} {e : Nat} : ∀ n, e < n → p e = false → (∀ i, i < n → q i = (p i || decide (i = e))) → et_cn q n = et_cn p n + 1 := by
  intro n
  induction n with
  | zero => intro h; omega
  | succ n ih =>
    intro he hp h
    have hn := h n (by omega)
    by_cases z : n = e
    · subst z
      rw [hp, decide_eq_true rfl, Bool.or_true] at hn
      rw [et_cn_t hn, et_cn_f hp]
      refine congrArg (· + 1) (et_cn_c n (fun i hi => ?_))
      rw [h i (by omega), decide_eq_false (by omega), Bool.or_false]
    · have := ih (by omega) hp (fun i hi => h i (by omega))
      rw [decide_eq_false z, Bool.or_false] at hn
      cases hq : p n
      · rw [et_cn_f hq, et_cn_f (hn.trans hq), this]
      · rw [et_cn_t hq, et_cn_t (hn.trans hq), this]
theorem et_cn_0 {p : Nat → Bool} {n : Nat} (h : ∀ i, i < n → p i = false) : et_cn p n = 0 := by
  induction n with
  | zero => rfl
  | succ n ih => rw [et_cn_f (h n (by omega)), ih (fun i hi => h i (by omega))]
theorem et_cn_pos {p : Nat → Bool} {e : Nat} : ∀ n, e < n → p e = true → 0 < et_cn p n := by
  intro n
  induction n with
  | zero => intro h; omega
  | succ n ih =>
    intro he hp
    by_cases z : n = e
    · subst z; rw [et_cn_t hp]; omega
    · have := ih (by omega) hp
      show 0 < et_cn p n + _
      omega
/-- a strictly smaller set: e is in q, not in p -/
theorem et_cn_lt {p q : Nat → Bool} {e n : Nat} (he : e < n) (hp : p e = false) (hq : q e = true) (h : ∀ i, i < n → p i = true → q i = true) : et_cn p n < et_cn q n := by
  have a := et_cn_ins (p := p) (q := fun i => p i || decide (i = e)) n he hp (fun i _ => rfl)
  have b := et_cn_mono (p := fun i => p i || decide (i = e)) (q := q) n (fun i hi z => by
    by_cases w : i = e
    · subst w; exact hq
    · rw [decide_eq_false w, Bool.or_false] at z; exact h i hi z)
  omega
/-- the first place at or behind i, of d, that has p; else -1 -/
def et_fs (p : Nat → Bool) : Nat → Nat → Int32
  | 0, _ => -1
  | d + 1, i => if p i = true then nI i else et_fs p d (i + 1)
theorem et_fs_t {p : Nat → Bool} {d i : Nat} (h : p i = true) : et_fs p (d + 1) i = nI i := if_pos h
theorem et_fs_f {p : Nat → Bool} {d i : Nat} (h : p i = false) : et_fs p (d + 1) i = et_fs p d (i + 1) := if_neg (by rw [h]; decide)
theorem et_fs_i {p : Nat → Bool} : ∀ d i, (∃ j, i ≤ j ∧ j < i + d ∧ p j = true ∧ et_fs p d i = nI j) ∨ ((∀ j, i ≤ j → j < i + d → p j = false) ∧ et_fs p d i = -1) := by
  intro d
  induction d with
  | zero => intro i; exact Or.inr ⟨fun j a b => by omega, rfl⟩
  | succ d ih =>
    intro i
    cases h : p i
    · rw [et_fs_f h]
      rcases ih (i + 1) with ⟨j, a, b, c, e⟩ | ⟨a, e⟩
      · exact Or.inl ⟨j, by omega, by omega, c, e⟩
      · refine Or.inr ⟨fun j u v => ?_, e⟩
        by_cases z : j = i
        · rw [z]; exact h
        · exact a j (by omega) (by omega)
    · exact Or.inl ⟨i, Nat.le_refl i, by omega, h, et_fs_t h⟩
theorem et_fs_c {p q : Nat → Bool} : ∀ d i, (∀ j, i ≤ j → j < i + d → p j = q j) → et_fs p d i = et_fs q d i := by
  intro d
  induction d with
  | zero => intro i _; rfl
  | succ d ih =>
    intro i h
    have e := h i (Nat.le_refl i) (by omega)
    have := ih (i + 1) (fun j a b => h j (by omega) (by omega))
    cases hq : q i
    · rw [et_fs_f hq, et_fs_f (e.trans hq), this]
    · rw [et_fs_t hq, et_fs_t (e.trans hq)]
/-- the only place that has p -/
theorem et_fs_u {p : Nat → Bool} {e : Nat} (he : e < 48) (h : p e = true) (hu : ∀ j, j < 48 → p j = true → j = e) : et_fs p 48 0 = nI e := by
  rcases et_fs_i (p := p) 48 0 with ⟨j, a, b, c, d⟩ | ⟨a, d⟩
  · rw [d, hu j (by omega) c]
  · have := a e (by omega) (by omega); rw [h] at this; cases this
theorem et_fs_n {p : Nat → Bool} (hu : ∀ j, j < 48 → p j = false) : et_fs p 48 0 = -1 := by
  rcases et_fs_i (p := p) 48 0 with ⟨j, a, b, c, d⟩ | ⟨a, d⟩
  · rw [hu j (by omega)] at c; cases c
  · exact d
/-! ints -/
theorem em_nn {x : Int32} {n : Nat} (hn : n < 2 ^ 31) (h : nI n ≤ x) : ¬ x < 0 := by
  rw [Int32.lt_iff_toInt_lt, show (0 : Int32).toInt = 0 from by decide]
  rw [Int32.le_iff_toInt_le, nI_toInt hn] at h
  omega
/-- within 0 .. N - 1 -/
def em_I (N : Nat) (p : Int32) : Prop := ∃ j, j < N ∧ p = nI j
def em_b (b : Bool) : Int32 := if b = true then 1 else 0
theorem em_10 : ¬ (1 : Int32) = 0 := by decide
theorem em_b0 {b : Bool} (h : b = false) : em_b b = 0 := by rw [h]; rfl
theorem em_b1 {b : Bool} (h : b = true) : em_b b = 1 := by rw [h]; rfl
theorem em_pow : (2 : Nat) ^ 31 = 2147483648 := by decide
end
section
/-! ===== the tree, plain: who is there, parents, what is below, who may read ===== -/
def et_th (t : Nat → Int32) (i : Nat) : Bool := decide (i < 48) && !decide (t i = 0)
theorem et_th_lt {t : Nat → Int32} {i : Nat} (h : et_th t i = true) : i < 48 := by
  unfold et_th at h
  rw [Bool.and_eq_true] at h
  exact of_decide_eq_true h.1
theorem et_th_ne {t : Nat → Int32} {i : Nat} (h : et_th t i = true) : ¬ t i = 0 := by
  unfold et_th at h
  rw [Bool.and_eq_true] at h
  intro z
  rw [decide_eq_true z] at h
  exact absurd h.2 (by decide)
theorem et_th_f {t : Nat → Int32} {i : Nat} (h : et_th t i = false) (hi : i < 48) : t i = 0 := by
  unfold et_th at h
  rw [decide_eq_true hi, Bool.true_and] at h
  by_cases z : t i = 0
  · exact z
  · rw [decide_eq_false z] at h; cases h
theorem et_th_of {t : Nat → Int32} {i : Nat} (hi : i < 48) (h : ¬ t i = 0) : et_th t i = true := by
  unfold et_th; rw [decide_eq_true hi, decide_eq_false h]; rfl
theorem et_th_big {t : Nat → Int32} {i : Nat} (hi : 48 ≤ i) : et_th t i = false := by
  unfold et_th; rw [decide_eq_false (by omega)]; rfl
theorem et_th_cg {t s : Nat → Int32} {i : Nat} (h : t i = s i) : et_th t i = et_th s i := by unfold et_th; rw [h]
def et_pa (q : Nat → Int32) (i : Nat) : Nat := (q i).toNatClampNeg
def et_bw (pa : Nat → Nat) : Nat → Nat → Nat → Bool
  | 0, _, _ => false
  | d + 1, e, a => decide (a = pa e) || et_bw pa d (pa e) a
/-- e is below a -/
def et_B (dp : Nat → Nat) (q : Nat → Int32) (e a : Nat) : Bool := et_bw (et_pa q) (dp e) e a
/-- a is e, or e is below a -/
def et_U (dp : Nat → Nat) (q : Nat → Int32) (e a : Nat) : Bool := decide (a = e) || et_B dp q e a
def et_mr (ru : Nat → Int32) (pa : Nat → Nat) : Nat → Nat → Bool
  | 0, e => if ru e < 0 then true else decide (ru e = 1)
  | d + 1, e => if ru e < 0 then et_mr ru pa d (pa e) else decide (ru e = 1)
/-- the group and attribute k may be read at e -/
def et_R (dp : Nat → Nat) (q ru : Nat → Int32) (k e : Nat) : Bool := et_mr (fun j => ru (24 * j + k)) (et_pa q) (dp e) e
/-- the tree -/
def et_Tr (dp : Nat → Nat) (t q : Nat → Int32) : Prop :=
  et_th t 0 = true ∧ q 0 = -1 ∧ dp 0 = 0 ∧ ∀ i, et_th t i = true → i ≠ 0 → q i = nI (et_pa q i) ∧ et_th t (et_pa q i) = true ∧ dp i = dp (et_pa q i) + 1
section
variable {dp : Nat → Nat} {t q : Nat → Int32}
theorem et_B_root (h : et_Tr dp t q) (a : Nat) : et_B dp q 0 a = false := by unfold et_B; rw [h.2.2.1]; rfl
theorem et_B_step (h : et_Tr dp t q) {e : Nat} (he : et_th t e = true) (h0 : e ≠ 0) (a : Nat) : et_B dp q e a = (decide (a = et_pa q e) || et_B dp q (et_pa q e) a) := by
  unfold et_B; rw [(h.2.2.2 e he h0).2.2]; rfl
theorem et_B_U (h : et_Tr dp t q) {e : Nat} (he : et_th t e = true) (h0 : e ≠ 0) (a : Nat) : et_B dp q e a = et_U dp q (et_pa q e) a := et_B_step h he h0 a
/-- induction from the root down -/
theorem et_ind (h : et_Tr dp t q) (P : Nat → Prop) (h0 : P 0) (hs : ∀ e, et_th t e = true → e ≠ 0 → et_th t (et_pa q e) = true → P (et_pa q e) → P e) : ∀ e, et_th t e = true → P e := by
  have : ∀ d e, dp e = d → et_th t e = true → P e := by
    intro d
    induction d with
    | zero =>
      intro e hd he
      by_cases z : e = 0
      · rw [z]; exact h0
      · have := (h.2.2.2 e he z).2.2; omega
    | succ d ih =>
      intro e hd he
      by_cases z : e = 0
      · rw [z]; exact h0
      · have w := h.2.2.2 e he z
        exact hs e he z w.2.1 (ih _ (by have := w.2.2; omega) w.2.1)
  exact fun e he => this (dp e) e rfl he
theorem et_B_th (h : et_Tr dp t q) : ∀ e, et_th t e = true → ∀ a, et_B dp q e a = true → et_th t a = true ∧ dp a < dp e := by
  apply et_ind h
  · intro a z; rw [et_B_root h] at z; cases z
  · intro e he h0 hp ih a z
    rw [et_B_step h he h0, Bool.or_eq_true] at z
    have w := (h.2.2.2 e he h0).2.2
    rcases z with z | z
    · rw [of_decide_eq_true z]; exact ⟨hp, by omega⟩
    · have := ih a z; exact ⟨this.1, by omega⟩
theorem et_B_irr (h : et_Tr dp t q) {e : Nat} (he : et_th t e = true) : et_B dp q e e = false := by
  cases z : et_B dp q e e
  · rfl
  · have := (et_B_th h e he e z).2; omega
theorem et_B_tr (h : et_Tr dp t q) : ∀ e, et_th t e = true → ∀ a b, et_B dp q e a = true → et_B dp q a b = true → et_B dp q e b = true := by
  apply et_ind h
  · intro a b z; rw [et_B_root h] at z; cases z
  · intro e he h0 hp ih a b z w
    rw [et_B_step h he h0, Bool.or_eq_true] at z
    rw [et_B_step h he h0, Bool.or_eq_true]
    rcases z with z | z
    · rw [← of_decide_eq_true z]; exact Or.inr w
    · exact Or.inr (ih a b z w)
theorem et_B_asy (h : et_Tr dp t q) {e a : Nat} (he : et_th t e = true) (z : et_B dp q e a = true) : et_B dp q a e = false := by
  cases w : et_B dp q a e
  · rfl
  · have := et_B_tr h e he a e z w; rw [et_B_irr h he] at this; cases this
theorem et_B_pa (h : et_Tr dp t q) {e : Nat} (he : et_th t e = true) (h0 : e ≠ 0) : et_B dp q e (et_pa q e) = true := by
  rw [et_B_step h he h0, decide_eq_true rfl, Bool.true_or]
/-- a chain upwards is a line -/
theorem et_B_lin (h : et_Tr dp t q) : ∀ j, et_th t j = true → ∀ a b, et_B dp q j a = true → et_B dp q j b = true → a = b ∨ et_B dp q a b = true ∨ et_B dp q b a = true := by
  apply et_ind h
  · intro a b z; rw [et_B_root h] at z; cases z
  · intro e he h0 hp ih a b z w
    rw [et_B_step h he h0, Bool.or_eq_true] at z w
    rcases z with z | z
    · rcases w with w | w
      · exact Or.inl ((of_decide_eq_true z).trans (of_decide_eq_true w).symm)
      · rw [of_decide_eq_true z]; exact Or.inr (Or.inl w)
    · rcases w with w | w
      · rw [of_decide_eq_true w]; exact Or.inr (Or.inr z)
      · exact ih a b z w
theorem et_B_0 (h : et_Tr dp t q) : ∀ e, et_th t e = true → e ≠ 0 → et_B dp q e 0 = true := by
  intro e he
  refine et_ind h (fun e => e ≠ 0 → et_B dp q e 0 = true) (fun z => absurd rfl z) ?_ e he
  intro e he h0 hp ih _
  rw [et_B_step h he h0, Bool.or_eq_true]
  by_cases z : et_pa q e = 0
  · exact Or.inl (decide_eq_true z.symm)
  · exact Or.inr (ih z)
/-- the depth is the number of entries above -/
theorem et_dp_cn (h : et_Tr dp t q) : ∀ e, et_th t e = true → dp e = et_cn (et_B dp q e) 48 := by
  apply et_ind h
  · rw [h.2.2.1, et_cn_0 (fun i _ => et_B_root h i)]
  · intro e he h0 hp ih
    rw [(h.2.2.2 e he h0).2.2, ih]
    refine (et_cn_ins 48 (et_th_lt hp) (et_B_irr h hp) (fun i _ => ?_)).symm
    rw [et_B_step h he h0, Bool.or_comm]
theorem et_dp_le (h : et_Tr dp t q) {e : Nat} (he : et_th t e = true) : dp e ≤ 48 := by
  rw [et_dp_cn h e he]; exact et_cn_le _ _
theorem et_pa_lt (h : et_Tr dp t q) {e : Nat} (he : et_th t e = true) (h0 : e ≠ 0) : et_pa q e < 48 := et_th_lt (h.2.2.2 e he h0).2.1
theorem et_q (h : et_Tr dp t q) {e : Nat} (he : et_th t e = true) (h0 : e ≠ 0) : q e = nI (et_pa q e) := (h.2.2.2 e he h0).1
theorem et_q_iff (h : et_Tr dp t q) {e a : Nat} (he : et_th t e = true) (ha : a < 48) : q e = nI a ↔ (e ≠ 0 ∧ et_pa q e = a) := by
  by_cases z : e = 0
  · subst z
    rw [h.2.1]
    refine ⟨fun w => ?_, fun w => absurd rfl w.1⟩
    have := congrArg Int32.toInt w
    rw [nI_toInt (by omega), show (-1 : Int32).toInt = -1 from by decide] at this
    omega
  · rw [et_q h he z, nI_eq (by have := et_pa_lt h he z; omega) (by omega)]
    exact ⟨fun w => ⟨z, w⟩, fun w => w.2⟩
theorem et_R_root (h : et_Tr dp t q) (ru : Nat → Int32) (k : Nat) : et_R dp q ru k 0 = if ru (24 * 0 + k) < 0 then true else decide (ru (24 * 0 + k) = 1) := by
  unfold et_R; rw [h.2.2.1]; rfl
theorem et_R_step (h : et_Tr dp t q) (ru : Nat → Int32) (k : Nat) {e : Nat} (he : et_th t e = true) (h0 : e ≠ 0) : et_R dp q ru k e = if ru (24 * e + k) < 0 then et_R dp q ru k (et_pa q e) else decide (ru (24 * e + k) = 1) := by
  unfold et_R; rw [(h.2.2.2 e he h0).2.2]; rfl
end
/-! a leaf is added -/
section
variable {dp : Nat → Nat} {t q : Nat → Int32}
theorem et_pa_u {q : Nat → Int32} {e p : Nat} (hp : p < 48) : et_pa (upd q e (nI p)) e = p := by
  unfold et_pa; rw [pk_us, nI_clamp (by omega)]
theorem et_pa_n {q : Nat → Int32} {e j : Nat} {x : Int32} (h : j ≠ e) : et_pa (upd q e x) j = et_pa q j := by
  unfold et_pa; rw [pk_un h]
theorem et_th_us {t : Nat → Int32} {e : Nat} {x : Int32} (he : e < 48) (hx : ¬ x = 0) : et_th (upd t e x) e = true := et_th_of he (by rw [pk_us]; exact hx)
theorem et_th_u0 {t : Nat → Int32} {e : Nat} : et_th (upd t e 0) e = false := by
  unfold et_th; rw [pk_us, decide_eq_true rfl, Bool.not_true, Bool.and_false]
theorem et_th_un {t : Nat → Int32} {e j : Nat} {x : Int32} (h : j ≠ e) : et_th (upd t e x) j = et_th t j := et_th_cg (pk_un h)
def et_dpu (dp : Nat → Nat) (e d : Nat) : Nat → Nat := fun i => if i = e then d else dp i
theorem et_add_Tr (h : et_Tr dp t q) {e p : Nat} (he : e < 48) (hn : et_th t e = false) (hp : et_th t p = true) {x : Int32} (hx : ¬ x = 0) :
    et_Tr (et_dpu dp e (dp p + 1)) (upd t e x) (upd q e (nI p)) := by
  have e0 : e ≠ 0 := fun z => by rw [z, h.1] at hn; cases hn
  have pe : p ≠ e := fun z => by rw [z, hn] at hp; cases hp
  refine ⟨by rw [et_th_un (Ne.symm e0)]; exact h.1, by rw [pk_un (Ne.symm e0)]; exact h.2.1, ?_, ?_⟩
  · show (if 0 = e then _ else dp 0) = 0
    rw [if_neg (Ne.symm e0)]; exact h.2.2.1
  · intro i hi h0
    by_cases z : i = e
    · subst z
      rw [et_pa_u (et_th_lt hp), pk_us, et_th_un pe]
      refine ⟨rfl, hp, ?_⟩
      show (if i = i then _ else _) = (if p = i then _ else dp p) + 1
      rw [if_pos rfl, if_neg pe]
    · rw [et_th_un z] at hi
      have w := h.2.2.2 i hi h0
      have pi : et_pa q i ≠ e := fun y => by rw [y, hn] at w; exact absurd w.2.1 (by decide)
      rw [et_pa_n z, pk_un z, et_th_un pi]
      refine ⟨w.1, w.2.1, ?_⟩
      show (if i = e then _ else dp i) = (if et_pa q i = e then _ else dp (et_pa q i)) + 1
      rw [if_neg z, if_neg pi]; exact w.2.2
theorem et_add_B (h : et_Tr dp t q) {e p : Nat} (he : e < 48) (hn : et_th t e = false) (hp : et_th t p = true) {x : Int32} (hx : ¬ x = 0) :
    (∀ j, et_th t j = true → ∀ a, et_B (et_dpu dp e (dp p + 1)) (upd q e (nI p)) j a = et_B dp q j a) ∧ (∀ a, et_B (et_dpu dp e (dp p + 1)) (upd q e (nI p)) e a = et_U dp q p a) := by
  have h' := et_add_Tr h he hn hp hx
  have e0 : e ≠ 0 := fun z => by rw [z, h.1] at hn; cases hn
  have pe : p ≠ e := fun z => by rw [z, hn] at hp; cases hp
  have A : ∀ j, et_th t j = true → ∀ a, et_B (et_dpu dp e (dp p + 1)) (upd q e (nI p)) j a = et_B dp q j a := by
    apply et_ind h
    · intro a; rw [et_B_root h', et_B_root h]
    · intro j hj h0 hpj ih a
      have je : j ≠ e := fun z => by rw [z, hn] at hj; cases hj
      rw [et_B_step h' (by rw [et_th_un je]; exact hj) h0, et_B_step h hj h0, et_pa_n je, ih]
  refine ⟨A, fun a => ?_⟩
  rw [et_B_U h' (et_th_us he hx) e0, et_pa_u (et_th_lt hp)]
  unfold et_U
  rw [A p hp]
/-- the rights of those that were there stay, whatever the new one's rules are -/
theorem et_add_R (h : et_Tr dp t q) {e p : Nat} (he : e < 48) (hn : et_th t e = false) (hp : et_th t p = true) {x : Int32} (hx : ¬ x = 0) {ru ru' : Nat → Int32} {k : Nat}
    (hr : ∀ j, j ≠ e → ru' (24 * j + k) = ru (24 * j + k)) : ∀ j, et_th t j = true → et_R (et_dpu dp e (dp p + 1)) (upd q e (nI p)) ru' k j = et_R dp q ru k j := by
  have h' := et_add_Tr h he hn hp hx
  have e0 : e ≠ 0 := fun z => by rw [z, h.1] at hn; cases hn
  apply et_ind h
  · rw [et_R_root h', et_R_root h, hr 0 (Ne.symm e0)]
  · intro j hj h0 hpj ih
    have je : j ≠ e := fun z => by rw [z, hn] at hj; cases hj
    rw [et_R_step h' ru' k (by rw [et_th_un je]; exact hj) h0, et_R_step h ru k hj h0, et_pa_n je, ih, hr j je]
/-! a leaf is removed: the reference keeps its parent -/
theorem et_rem_Tr (h : et_Tr dp t q) {e : Nat} (e0 : e ≠ 0) (hl : ∀ j, et_th t j = true → j ≠ 0 → et_pa q j ≠ e) : et_Tr dp (upd t e 0) q := by
  refine ⟨by rw [et_th_un (Ne.symm e0)]; exact h.1, h.2.1, h.2.2.1, fun i hi h0 => ?_⟩
  have ie : i ≠ e := fun z => by rw [z, et_th_u0] at hi; cases hi
  rw [et_th_un ie] at hi
  have w := h.2.2.2 i hi h0
  exact ⟨w.1, by rw [et_th_un (hl i hi h0)]; exact w.2.1, w.2.2⟩
/-! a move -/
def et_mdp (dp : Nat → Nat) (q : Nat → Int32) (e p : Nat) : Nat → Nat := fun i => if (decide (i = e) || et_B dp q i e) = true then dp i - dp e + dp p + 1 else dp i
def et_S (dp : Nat → Nat) (q : Nat → Int32) (e i : Nat) : Bool := decide (i = e) || et_B dp q i e
theorem et_mdp_t {e p i : Nat} (h : et_S dp q e i = true) : et_mdp dp q e p i = dp i - dp e + dp p + 1 := if_pos h
theorem et_mdp_f {e p i : Nat} (h : et_S dp q e i = false) : et_mdp dp q e p i = dp i := if_neg (by unfold et_S at h; rw [h]; decide)
theorem et_S_e (e : Nat) : et_S dp q e e = true := by unfold et_S; rw [decide_eq_true rfl, Bool.true_or]
theorem et_S_pa (h : et_Tr dp t q) {e i : Nat} (hi : et_th t i = true) (h0 : i ≠ 0) (ie : i ≠ e) : et_S dp q e i = et_S dp q e (et_pa q i) := by
  unfold et_S
  rw [decide_eq_false ie, Bool.false_or, et_B_step h hi h0]
  congr 1
  exact decide_eq_decide.mpr ⟨fun z => z.symm, fun z => z.symm⟩
theorem et_mv_Tr (h : et_Tr dp t q) {e p : Nat} (he : et_th t e = true) (e0 : e ≠ 0) (hp : et_th t p = true) (hS : et_S dp q e p = false) :
    et_Tr (et_mdp dp q e p) t (upd q e (nI p)) := by
  have S0 : et_S dp q e 0 = false := by
    unfold et_S; rw [decide_eq_false (Ne.symm e0), et_B_root h]; rfl
  refine ⟨h.1, by rw [pk_un (Ne.symm e0)]; exact h.2.1, by rw [et_mdp_f S0]; exact h.2.2.1, fun i hi h0 => ?_⟩
  by_cases ie : i = e
  · subst ie
    rw [et_pa_u (et_th_lt hp), pk_us, et_mdp_t (et_S_e i), et_mdp_f hS]
    exact ⟨rfl, hp, by omega⟩
  · have w := h.2.2.2 i hi h0
    rw [et_pa_n ie, pk_un ie]
    refine ⟨w.1, w.2.1, ?_⟩
    have s := et_S_pa h hi h0 ie
    cases z : et_S dp q e (et_pa q i)
    · rw [et_mdp_f z, et_mdp_f (s.trans z)]; exact w.2.2
    · rw [et_mdp_t z, et_mdp_t (s.trans z)]
      have : dp e ≤ dp (et_pa q i) := by
        unfold et_S at z
        rw [Bool.or_eq_true] at z
        rcases z with z | z
        · rw [of_decide_eq_true z]; exact Nat.le_refl _
        · exact Nat.le_of_lt (et_B_th h _ w.2.1 e z).2
      have := w.2.2
      omega
/-- outside the moved part all stays; inside: what is above within the part, and the new place -/
theorem et_mv_B (h : et_Tr dp t q) {e p : Nat} (he : et_th t e = true) (e0 : e ≠ 0) (hp : et_th t p = true) (hS : et_S dp q e p = false) :
    ∀ j, et_th t j = true → ∀ a, et_B (et_mdp dp q e p) (upd q e (nI p)) j a = if et_S dp q e j = true then ((et_B dp q j a && !et_U dp q (et_pa q e) a) || et_U dp q p a) else et_B dp q j a := by
  have h' := et_mv_Tr h he e0 hp hS
  have S0 : et_S dp q e 0 = false := by
    unfold et_S; rw [decide_eq_false (Ne.symm e0), et_B_root h]; rfl
  have A : ∀ j, et_th t j = true → et_S dp q e j = false → ∀ a, et_B (et_mdp dp q e p) (upd q e (nI p)) j a = et_B dp q j a := by
    refine et_ind h (fun j => et_S dp q e j = false → ∀ a, et_B (et_mdp dp q e p) (upd q e (nI p)) j a = et_B dp q j a) ?_ ?_
    · intro _ a; rw [et_B_root h', et_B_root h]
    · intro j hj h0 hpj ih hs a
      have je : j ≠ e := fun z => by rw [z, et_S_e] at hs; cases hs
      rw [et_B_step h' hj h0, et_B_step h hj h0, et_pa_n je, ih ((et_S_pa h hj h0 je).symm.trans hs)]
  have E : ∀ a, et_B (et_mdp dp q e p) (upd q e (nI p)) e a = et_U dp q p a := fun a => by
    rw [et_B_U h' he e0, et_pa_u (et_th_lt hp)]
    unfold et_U; rw [A p hp hS]
  have C : ∀ j, et_th t j = true → et_S dp q e j = true → ∀ a, et_B (et_mdp dp q e p) (upd q e (nI p)) j a = ((et_B dp q j a && !et_U dp q (et_pa q e) a) || et_U dp q p a) := by
    refine et_ind h (fun j => et_S dp q e j = true → ∀ a, et_B (et_mdp dp q e p) (upd q e (nI p)) j a = ((et_B dp q j a && !et_U dp q (et_pa q e) a) || et_U dp q p a)) ?_ ?_
    · intro z; rw [S0] at z; cases z
    · intro j hj h0 hpj ih hs a
      by_cases je : j = e
      · subst je
        rw [E a, et_B_U h hj h0, Bool.and_not_self, Bool.false_or]
      · have s := (et_S_pa h hj h0 je).symm.trans hs
        rw [et_B_step h' hj h0, et_B_step h hj h0, et_pa_n je, ih s a]
        by_cases z : a = et_pa q j
        · subst z
          have : et_U dp q (et_pa q e) (et_pa q j) = false := by
            rw [← et_B_U h he e0]
            unfold et_S at s
            rw [Bool.or_eq_true] at s
            rcases s with s | s
            · rw [of_decide_eq_true s]; exact et_B_irr h he
            · exact et_B_asy h hpj s
          rw [this, decide_eq_true rfl]; rfl
        · rw [decide_eq_false z, Bool.false_or, Bool.false_or]
  intro j hj a
  cases z : et_S dp q e j
  · rw [if_neg (by decide)]; exact A j hj z a
  · rw [if_pos rfl]; exact C j hj z a
end
end
section
/-! ===== the relation ===== -/
def et_al (t l : Nat → Int32) (i : Nat) : Bool := et_th t i && !decide (l i = -1)
/-- an int names an entry that is there -/
def et_T (t : Nat → Int32) (p : Int32) : Prop := ∃ j, et_th t j = true ∧ p = nI j
def er_Th (T : Int64) (t : Nat → Int32) : Prop := ∀ i, eb_t T i = et_th t i
def er_Par (t q a_parents : Nat → Int32) : Prop := ∀ i, et_th t i = true → a_parents i = q i
def er_Nam (t b_name a_names : Nat → Int32) : Prop := b_name 0 = -1 ∧ ∀ i, et_th t i = true → i ≠ 0 → a_names i = b_name i
def er_Ali (t l : Nat → Int32) (A : Int64) (a_aliases : Nat → Int32) : Prop := (∀ i, eb_t A i = et_al t l i) ∧ ∀ i, et_al t l i = true → a_aliases i = l i
def er_AlY (t q l : Nat → Int32) : Prop := l 0 = -1 ∧ (∀ i, et_al t l i = true → l i = -2 ∨ ∃ j, et_th t j = true ∧ l i = nI j) ∧ ∀ i, et_th t i = true → i ≠ 0 → l (et_pa q i) = -1
def er_Und (t q : Nat → Int32) (und : Nat → Int64) : Prop := ∀ p, p < 48 → ∀ j, eb_t (und p) j = (et_th t j && decide (q j = nI p))
def er_Bel (dp : Nat → Nat) (t q : Nat → Int32) (bel : Nat → Int64) : Prop := ∀ a, a < 48 → ∀ j, eb_t (bel a) j = (et_th t j && et_B dp q j a)
def er_Hav (t sets : Nat → Int32) (hav : Nat → Int64) : Prop := ∀ a, a < 6 → ∀ v, v < 16 → ∀ e, eb_t (hav (16 * a + v)) e = (et_th t e && bt (sets (6 * e + a)) v)
def er_Any (hav any : Nat → Int64) : Prop := ∀ a, a < 6 → ∀ e, eb_t (any a) e = true ↔ ∃ v, v < 16 ∧ eb_t (hav (16 * a + v)) e = true
def er_Set (t sets : Nat → Int32) : Prop := ∀ e, et_th t e = true → ∀ a, a < 6 → ∀ v, 16 ≤ v → bt (sets (6 * e + a)) v = false
def er_Rul (t rules : Nat → Int32) (yes no : Nat → Int64) : Prop := ∀ k, k < 24 → ∀ e, eb_t (yes k) e = (et_th t e && decide (rules (24 * e + k) = 1)) ∧ eb_t (no k) e = (et_th t e && decide (rules (24 * e + k) = 0)) ∧ (et_th t e = true → rules (24 * e + k) = -1 ∨ rules (24 * e + k) = 0 ∨ rules (24 * e + k) = 1)
def er_Opn (dp : Nat → Nat) (t q rules known : Nat → Int32) (opn : Nat → Int64) : Prop := ∀ k, k < 24 → ¬ known k = 0 → ∀ e, et_th t e = true → eb_t (opn k) e = et_R dp q rules k e
def er_TokA (T : Nat) (ka aa va : Nat → Nat) (a_kinds a_attributes a_values : Nat → Int32) : Prop :=
  ∀ i, i < T → ka i < 7 ∧ a_kinds i = nI (ka i) ∧ (ka i < 4 → aa i < 6 ∧ a_attributes i = nI (aa i)) ∧ (0 < ka i → ka i < 4 → va i < 16 ∧ a_values i = nI (va i))
def er_Tok (f_tokens g_tokens : Int32) (a_kinds a_attributes a_values b_kinds b_attributes b_numbers : Nat → Int32) : Prop :=
  ∃ (T : Nat) (ka aa va : Nat → Nat), T ≤ 12 ∧ f_tokens = nI T ∧ g_tokens = nI T ∧ er_TokA T ka aa va a_kinds a_attributes a_values ∧ er_TokA T ka aa va b_kinds b_attributes b_numbers
def er_Ser (k : Nat) (t : Nat → Int32) (f_serial g_serial : Int32) (a_serials b_serials : Nat → Int32) : Prop :=
  ∃ s, s ≤ k ∧ f_serial = nI s ∧ g_serial = nI s ∧ a_serials = b_serials ∧ (∀ i, i < 48 → ∃ z, z ≤ s ∧ b_serials i = nI z) ∧ ∀ i j, et_th t i = true → et_th t j = true → b_serials i = b_serials j → i = j
def er_Fnd (found : Int64) (finds : Nat → Int32) : Prop := ∀ i, eb_t found i = et_th finds i
def er_Rel (k : Nat) (dp : Nat → Nat) (f_there f_isAlias : Int64) (f_serial f_tokens : Int32) (f_found : Int64) (a_parents a_names a_aliases a_serials : Nat → Int32) (a_under a_below a_having a_any a_yes a_no a_open : Nat → Int64) (a_known a_kinds a_attributes a_values : Nat → Int32) (g_tokens g_serial : Int32) (b_there b_parent b_name b_alias b_serials b_sets b_rules b_kinds b_attributes b_numbers b_finds : Nat → Int32) : Prop :=
  er_Th f_there b_there ∧ et_Tr dp b_there b_parent ∧ er_Par b_there b_parent a_parents ∧ er_Nam b_there b_name a_names ∧ er_Ali b_there b_alias f_isAlias a_aliases ∧ er_AlY b_there b_parent b_alias ∧
  er_Und b_there b_parent a_under ∧ er_Bel dp b_there b_parent a_below ∧ er_Hav b_there b_sets a_having ∧ er_Any a_having a_any ∧ er_Set b_there b_sets ∧ er_Rul b_there b_rules a_yes a_no ∧
  er_Opn dp b_there b_parent b_rules a_known a_open ∧ er_Tok f_tokens g_tokens a_kinds a_attributes a_values b_kinds b_attributes b_numbers ∧ er_Ser k b_there f_serial g_serial a_serials b_serials ∧ er_Fnd f_found b_finds
/-- the relation at the head of a turn whose first cell is k -/
def i_Rel (k : Nat) (u : SX) (v : SY) : Prop := match u, v with
  | (f_there, f_isAlias, f_serial, f_tokens, f_found, a_parents, a_names, a_aliases, a_serials, a_under, a_below, a_having, a_any, a_yes, a_no, a_open, a_known, a_kinds, a_attributes, a_values, a_isTrue, a_isFalse), (g_tokens, g_serial, b_there, b_parent, b_name, b_alias, b_serials, b_sets, b_rules, b_kinds, b_attributes, b_numbers, b_stack, b_searched, b_gone, b_finds) => ∃ dp, er_Rel k dp f_there f_isAlias f_serial f_tokens f_found a_parents a_names a_aliases a_serials a_under a_below a_having a_any a_yes a_no a_open a_known a_kinds a_attributes a_values g_tokens g_serial b_there b_parent b_name b_alias b_serials b_sets b_rules b_kinds b_attributes b_numbers b_finds
theorem er_Ser_up {k m : Nat} (hm : k ≤ m) {t : Nat → Int32} {f g : Int32} {a b : Nat → Int32} (h : er_Ser k t f g a b) : er_Ser m t f g a b := by
  obtain ⟨s, h1, h2⟩ := h
  exact ⟨s, by omega, h2⟩
theorem er_up {k m : Nat} (hm : k ≤ m) {dp : Nat → Nat} {f_there f_isAlias : Int64} {f_serial f_tokens : Int32} {f_found : Int64} {a_parents a_names a_aliases a_serials : Nat → Int32} {a_under a_below a_having a_any a_yes a_no a_open : Nat → Int64} {a_known a_kinds a_attributes a_values : Nat → Int32} {g_tokens g_serial : Int32} {b_there b_parent b_name b_alias b_serials b_sets b_rules b_kinds b_attributes b_numbers b_finds : Nat → Int32} (h : er_Rel k dp f_there f_isAlias f_serial f_tokens f_found a_parents a_names a_aliases a_serials a_under a_below a_having a_any a_yes a_no a_open a_known a_kinds a_attributes a_values g_tokens g_serial b_there b_parent b_name b_alias b_serials b_sets b_rules b_kinds b_attributes b_numbers b_finds) : er_Rel m dp f_there f_isAlias f_serial f_tokens f_found a_parents a_names a_aliases a_serials a_under a_below a_having a_any a_yes a_no a_open a_known a_kinds a_attributes a_values g_tokens g_serial b_there b_parent b_name b_alias b_serials b_sets b_rules b_kinds b_attributes b_numbers b_finds := by
  obtain ⟨h1, h2, h3, h4, h5, h6, h7, h8, h9, h10, h11, h12, h13, h14, h15, h16⟩ := h
  exact ⟨h1, h2, h3, h4, h5, h6, h7, h8, h9, h10, h11, h12, h13, h14, er_Ser_up hm h15, h16⟩
theorem er_el {k : Nat} {P : SX → SY → Prop} (h : ∀ (f_there f_isAlias : Int64) (f_serial f_tokens : Int32) (f_found : Int64) (a_parents a_names a_aliases a_serials : Nat → Int32) (a_under a_below a_having a_any a_yes a_no a_open : Nat → Int64) (a_known a_kinds a_attributes a_values : Nat → Int32) (a_isTrue a_isFalse : Nat → Int64) (g_tokens g_serial : Int32) (b_there b_parent b_name b_alias b_serials b_sets b_rules b_kinds b_attributes b_numbers b_stack b_searched b_gone b_finds : Nat → Int32) (dp : Nat → Nat), er_Rel k dp f_there f_isAlias f_serial f_tokens f_found a_parents a_names a_aliases a_serials a_under a_below a_having a_any a_yes a_no a_open a_known a_kinds a_attributes a_values g_tokens g_serial b_there b_parent b_name b_alias b_serials b_sets b_rules b_kinds b_attributes b_numbers b_finds → P (f_there, f_isAlias, f_serial, f_tokens, f_found, a_parents, a_names, a_aliases, a_serials, a_under, a_below, a_having, a_any, a_yes, a_no, a_open, a_known, a_kinds, a_attributes, a_values, a_isTrue, a_isFalse) (g_tokens, g_serial, b_there, b_parent, b_name, b_alias, b_serials, b_sets, b_rules, b_kinds, b_attributes, b_numbers, b_stack, b_searched, b_gone, b_finds)) {u : SX} {v : SY} (I : i_Rel k u v) : P u v := by
  obtain ⟨f_there, f_isAlias, f_serial, f_tokens, f_found, a_parents, a_names, a_aliases, a_serials, a_under, a_below, a_having, a_any, a_yes, a_no, a_open, a_known, a_kinds, a_attributes, a_values, a_isTrue, a_isFalse⟩ := u
  obtain ⟨g_tokens, g_serial, b_there, b_parent, b_name, b_alias, b_serials, b_sets, b_rules, b_kinds, b_attributes, b_numbers, b_stack, b_searched, b_gone, b_finds⟩ := v
  obtain ⟨dp, I⟩ := I
  exact h f_there f_isAlias f_serial f_tokens f_found a_parents a_names a_aliases a_serials a_under a_below a_having a_any a_yes a_no a_open a_known a_kinds a_attributes a_values a_isTrue a_isFalse g_tokens g_serial b_there b_parent b_name b_alias b_serials b_sets b_rules b_kinds b_attributes b_numbers b_stack b_searched b_gone b_finds dp I
theorem i_up {k : Nat} {u : SX} {v : SY} (h : i_Rel k u v) : i_Rel (k + 5) u v := by
  refine er_el (P := fun u v => i_Rel (k + 5) u v) ?_ h
  intro f_there f_isAlias f_serial f_tokens f_found a_parents a_names a_aliases a_serials a_under a_below a_having a_any a_yes a_no a_open a_known a_kinds a_attributes a_values a_isTrue a_isFalse g_tokens g_serial b_there b_parent b_name b_alias b_serials b_sets b_rules b_kinds b_attributes b_numbers b_stack b_searched b_gone b_finds dp I
  exact ⟨dp, er_up (by omega) I⟩
end
section
/-! ===== the component's helpers ===== -/
section
variable {f_there f_isAlias f_found : Int64} {f_serial f_tokens : Int32} {a_parents a_names a_aliases a_serials a_known a_kinds a_attributes a_values : Nat → Int32} {a_under a_below a_having a_any a_yes a_no a_open a_isTrue a_isFalse : Nat → Int64}
variable {post : Int32 → Prop} {t q l nm : Nat → Int32} {dp : Nat → Nat}
theorem ex_in_t {j N : Nat} (hj : j < N) (hN : N < 2 ^ 31) (h : post 1) : wpX_in post (nI j) (nI N) :=
  br_f (nI_pos (by omega)) (br_f (nI_ge hj hN) h)
theorem ex_in_f {p : Int32} {N : Nat} (hN : N < 2 ^ 31) (hp : ¬ em_I N p) (h : post 0) : wpX_in post p (nI N) := by
  rcases pk_ix p hN with z | z | z
  · exact br_t z h
  · exact br_f (em_nn hN z) (br_t z h)
  · exact absurd z hp
theorem ex_isThere_t (hT : er_Th f_there t) {j : Nat} (hj : et_th t j = true) (h : post 1) : wpX_isThere post (f_there, f_isAlias, f_serial, f_tokens, f_found, a_parents, a_names, a_aliases, a_serials, a_under, a_below, a_having, a_any, a_yes, a_no, a_open, a_known, a_kinds, a_attributes, a_values, a_isTrue, a_isFalse) (nI j) := by
  unfold wpX_isThere
  exact ex_in_t (N := 48) (et_th_lt hj) (by decide) (br_f em_10 (br_f (eb_shr1 ((hT j).trans hj)) h))
theorem ex_isThere_f (hT : er_Th f_there t) {p : Int32} (hp : ¬ et_T t p) (h : post 0) : wpX_isThere post (f_there, f_isAlias, f_serial, f_tokens, f_found, a_parents, a_names, a_aliases, a_serials, a_under, a_below, a_having, a_any, a_yes, a_no, a_open, a_known, a_kinds, a_attributes, a_values, a_isTrue, a_isFalse) p := by
  unfold wpX_isThere
  by_cases z : em_I 48 p
  · obtain ⟨j, hj, rfl⟩ := z
    refine ex_in_t (N := 48) hj (by decide) (br_f em_10 (br_t (eb_shr0 ?_ (by omega)) h))
    rw [hT j]
    cases w : et_th t j
    · rfl
    · exact absurd ⟨j, w, rfl⟩ hp
  · exact ex_in_f (N := 48) (by decide) z (br_t rfl h)
theorem ex_bit {post : Int64 → Prop} {j : Nat} (hj : j < 64) (h : ∀ b, (∀ i, eb_t b i = decide (i = j)) → post b) : wpX_bit post (nI j) := h _ (eb_bit hj)
theorem ex_lowest {x : Int64} {e : Nat} (he : eb_t x e = true) (hl : ∀ i, i < e → eb_t x i = false) (h : post (nI e)) : wpX_lowest post x := by
  have e64 := eb_lt he
  have L : ∀ d m, m + d = e → wX_lowest_2 post x (d + 1) (nI m) := by
    intro d
    induction d with
    | zero =>
      intro m hm
      obtain rfl : m = e := by omega
      exact br_f (eb_shr1 he) h
    | succ d ih =>
      intro m hm
      exact br_t (eb_shr0 (hl m (by omega)) (by omega)) (nm_r (nI_1 m) (ih (m + 1) (by omega)))
  exact ⟨e + 1, L e 0 (by omega)⟩
theorem ex_size {x : Int64} (hx : ∀ i, 48 ≤ i → eb_t x i = false) (h : post (nI (et_cn (eb_t x) 48))) : wpX_size post x := by
  refine ⟨49, ?_⟩
  refine eb_loop0 (fun n r (s : Nat) => wX_size_4 post n (nI s) r) x (fun m s => s = et_cn (eb_t x) m) hx ?_ ?_ ?_ 0 rfl
  · intro n s hs
    subst hs
    exact br_t rfl h
  · intro m s _ hs hb
    rw [et_cn_f hb]; exact hs
  · intro n m s r hm hs hb hr hl K
    refine br_f (eb_ne hr) (nm_r (nI_1 s) (nm_e (K (s + 1) ?_)))
    rw [et_cn_t hb, hs]
theorem ex_named {p : Nat} {w : Int32} (hTr : et_Tr dp t q) (hU : er_Und t q a_under) (hN : er_Nam t nm a_names) (hp : p < 48)
    (h : post (et_fs (fun e => et_th t e && decide (q e = nI p) && decide (nm e = w)) 48 0)) : wpX_named post (f_there, f_isAlias, f_serial, f_tokens, f_found, a_parents, a_names, a_aliases, a_serials, a_under, a_below, a_having, a_any, a_yes, a_no, a_open, a_known, a_kinds, a_attributes, a_values, a_isTrue, a_isFalse) (nI p) w := by
  unfold wpX_named
  refine ⟨vp_in_nI hp (by decide), nm_r (e' := a_under p) (by rw [nI_clamp (by omega)]) ⟨49, ?_⟩⟩
  refine eb_loop0 (fun n r (_ : Unit) => wX_named_7 post w f_there f_isAlias f_serial f_tokens f_found a_parents a_names a_aliases a_serials a_under a_below a_having a_any a_yes a_no a_open a_known a_kinds a_attributes a_values a_isTrue a_isFalse n r) (a_under p) (fun m _ => post (et_fs (fun e => et_th t e && decide (q e = nI p) && decide (nm e = w)) (48 - m) m)) ?_ ?_ ?_ ?_ () h
  · intro i hi; rw [hU p hp, et_th_big hi, Bool.false_and]
  · intro n _ hI; exact br_t rfl hI
  · intro m _ hm hI hb
    rw [hU p hp] at hb
    rw [show 48 - m = (48 - (m + 1)) + 1 by omega, et_fs_f (by rw [hb, Bool.false_and])] at hI
    exact hI
  · intro n m _ r hm hI hb hr hl K
    rw [hU p hp] at hb
    have hb' := hb
    rw [Bool.and_eq_true] at hb'
    have e : (nI m).toNatClampNeg = m := nI_clamp (by omega)
    have m0 : m ≠ 0 := ((et_q_iff hTr hb'.1 hp).mp (of_decide_eq_true hb'.2)).1
    rw [show 48 - m = (48 - (m + 1)) + 1 by omega] at hI
    refine br_f (eb_ne hr) (ex_lowest hr hl ⟨vp_in_nI hm (by decide), ?_⟩)
    by_cases z : nm m = w
    · rw [et_fs_t (by rw [hb, decide_eq_true z]; rfl)] at hI
      exact br_t (by rw [e, hN.2 m hb'.1 m0]; exact z) hI
    · rw [et_fs_f (by rw [hb, decide_eq_false z]; rfl)] at hI
      exact br_f (by rw [e, hN.2 m hb'.1 m0]; exact z) (nm_e (K () hI))
/-! carry -/
def ex_cb (bel : Nat → Int64) (set : Int64) (on : Int32) (p : Nat) : Nat → Int64 := vp_updL bel p (if on = 0 then bel p &&& (set ^^^ (-1)) else bel p ||| set)
def ex_cs (dp : Nat → Nat) (q : Nat → Int32) (bel bel' : Nat → Int64) (set : Int64) (on : Int32) (p : Nat) : Prop :=
  ∀ a i, i < 64 → eb_t (bel' a) i = if et_U dp q p a = true then (if on = 0 then (eb_t (bel a) i && !eb_t set i) else (eb_t (bel a) i || eb_t set i)) else eb_t (bel a) i
theorem ex_carry_1 {post : SX → Prop} {bel : Nat → Int64} {set : Int64} {on : Int32} {p n : Nat} (hp : p < 48)
    (h : wX_carry_3 post set on f_there f_isAlias f_serial f_tokens f_found n (a_parents p) a_parents a_names a_aliases a_serials a_under (ex_cb bel set on p) a_having a_any a_yes a_no a_open a_known a_kinds a_attributes a_values a_isTrue a_isFalse) : wX_carry_3 post set on f_there f_isAlias f_serial f_tokens f_found (n + 1) (nI p) a_parents a_names a_aliases a_serials a_under bel a_having a_any a_yes a_no a_open a_known a_kinds a_attributes a_values a_isTrue a_isFalse := by
  have i : vp_in (nI p) 48 := vp_in_nI hp (by decide)
  have e : (nI p).toNatClampNeg = p := nI_clamp (by omega)
  refine br_f (nI_pos (by omega)) (br_c (fun z => ⟨i, i, nm_r (e' := ex_cb bel set on p) ?_ ⟨i, nm_r (e' := a_parents p) (by rw [e]) h⟩⟩) (fun z => ⟨i, i, nm_r (e' := ex_cb bel set on p) ?_ ⟨i, nm_r (e' := a_parents p) (by rw [e]) h⟩⟩))
  · unfold ex_cb; rw [if_pos z, e]
  · unfold ex_cb; rw [if_neg z, e]
theorem ex_cb_s (bel : Nat → Int64) (set : Int64) (on : Int32) (p : Nat) {i : Nat} (hi : i < 64) : eb_t (ex_cb bel set on p p) i = if on = 0 then (eb_t (bel p) i && !eb_t set i) else (eb_t (bel p) i || eb_t set i) := by
  unfold ex_cb
  rw [pk_uLs]
  by_cases z : on = 0
  · rw [if_pos z, if_pos z, eb_and, eb_not _ hi]
  · rw [if_neg z, if_neg z, eb_or]
theorem ex_carry_n {post : SX → Prop} (hTr : et_Tr dp t q) {set : Int64} {on : Int32} : ∀ p, et_th t p = true → ∀ bel, (∀ j, et_U dp q p j = true → a_parents j = q j) →
    (∀ bel', ex_cs dp q bel bel' set on p → post (f_there, f_isAlias, f_serial, f_tokens, f_found, a_parents, a_names, a_aliases, a_serials, a_under, bel', a_having, a_any, a_yes, a_no, a_open, a_known, a_kinds, a_attributes, a_values, a_isTrue, a_isFalse)) → ∃ n, wX_carry_3 post set on f_there f_isAlias f_serial f_tokens f_found n (nI p) a_parents a_names a_aliases a_serials a_under bel a_having a_any a_yes a_no a_open a_known a_kinds a_attributes a_values a_isTrue a_isFalse := by
  apply et_ind hTr
  · intro bel hc H
    refine ⟨2, ex_carry_1 (by decide) ?_⟩
    rw [hc 0 (by unfold et_U; rw [decide_eq_true rfl, Bool.true_or]), hTr.2.1]
    refine br_t (by decide) (H _ (fun a i hi => ?_))
    unfold et_U
    rw [et_B_root hTr, Bool.or_false]
    by_cases z : a = 0
    · subst z
      rw [if_pos (decide_eq_true rfl), ex_cb_s bel set on 0 hi]
    · rw [if_neg (by rw [decide_eq_false z]; decide)]
      unfold ex_cb
      rw [pk_uLn z]
  · intro e he h0 hp ih bel hc H
    have U : ∀ a, et_U dp q e a = (decide (a = e) || et_U dp q (et_pa q e) a) := fun a => by
      rw [← et_B_U hTr he h0]; rfl
    obtain ⟨n, hn⟩ := ih (ex_cb bel set on e) (fun j hj => hc j (by rw [U, hj, Bool.or_true])) (fun bel' hb => H bel' (fun a i hi => by
      rw [hb a i hi, U]
      by_cases z : a = e
      · subst z
        rw [decide_eq_true rfl, Bool.true_or, if_pos rfl, ← et_B_U hTr he h0, et_B_irr hTr he, if_neg (by decide), ex_cb_s bel set on a hi]
      · rw [decide_eq_false z, Bool.false_or]
        unfold ex_cb
        rw [pk_uLn z]))
    refine ⟨n + 1, ex_carry_1 (et_th_lt he) ?_⟩
    rw [hc e (by rw [U, decide_eq_true rfl, Bool.true_or]), et_q hTr he h0]
    exact hn
theorem ex_carry {post : SX → Prop} (hTr : et_Tr dp t q) {set : Int64} {on : Int32} {p : Nat} (hp : et_th t p = true) (hc : ∀ j, et_U dp q p j = true → a_parents j = q j)
    (H : ∀ bel', ex_cs dp q a_below bel' set on p → post (f_there, f_isAlias, f_serial, f_tokens, f_found, a_parents, a_names, a_aliases, a_serials, a_under, bel', a_having, a_any, a_yes, a_no, a_open, a_known, a_kinds, a_attributes, a_values, a_isTrue, a_isFalse)) : wpX_carry post (f_there, f_isAlias, f_serial, f_tokens, f_found, a_parents, a_names, a_aliases, a_serials, a_under, a_below, a_having, a_any, a_yes, a_no, a_open, a_known, a_kinds, a_attributes, a_values, a_isTrue, a_isFalse) (nI p) set on := by
  unfold wpX_carry
  exact ex_carry_n hTr p hp a_below hc H
theorem ex_forget {post : SX → Prop} (H : ∀ kn, (∀ k, k < 24 → kn k = 0) → post (f_there, f_isAlias, f_serial, f_tokens, f_found, a_parents, a_names, a_aliases, a_serials, a_under, a_below, a_having, a_any, a_yes, a_no, a_open, kn, a_kinds, a_attributes, a_values, a_isTrue, a_isFalse)) : wpX_forgetRights post (f_there, f_isAlias, f_serial, f_tokens, f_found, a_parents, a_names, a_aliases, a_serials, a_under, a_below, a_having, a_any, a_yes, a_no, a_open, a_known, a_kinds, a_attributes, a_values, a_isTrue, a_isFalse) := by
  unfold wpX_forgetRights
  have L : ∀ d i kn, i + d = 24 → (∀ k, k < i → kn k = 0) → wX_forgetRights_2 post f_there f_isAlias f_serial f_tokens f_found (d + 1) (nI i) a_parents a_names a_aliases a_serials a_under a_below a_having a_any a_yes a_no a_open kn a_kinds a_attributes a_values a_isTrue a_isFalse := by
    intro d
    induction d with
    | zero =>
      intro i kn hi hk
      obtain rfl : i = 24 := by omega
      exact br_t (nI_le (a := 24) (b := 24) (Nat.le_refl _) (by decide)) (H kn hk)
    | succ d ih =>
      intro i kn hi hk
      refine br_f (nI_ge (b := 24) (by omega) (by decide)) ⟨vp_in_nI (by omega) (by decide), nm_r (e' := upd kn i 0) (by rw [nI_clamp (by omega)]; rfl) (nm_r (nI_1 i) (ih (i + 1) _ (by omega) (fun k hk' => ?_)))⟩
      by_cases z : k = i
      · rw [z, pk_us]
      · rw [pk_un z]; exact hk k (by omega)
  exact ⟨25, L 24 0 a_known (by omega) (fun k hk => by omega)⟩
theorem ex_depth (hTr : et_Tr dp t q) (hP : er_Par t q a_parents) {e : Nat} (he : et_th t e = true) (h : post (nI (dp e))) : wpX_depth post (f_there, f_isAlias, f_serial, f_tokens, f_found, a_parents, a_names, a_aliases, a_serials, a_under, a_below, a_having, a_any, a_yes, a_no, a_open, a_known, a_kinds, a_attributes, a_values, a_isTrue, a_isFalse) (nI e) := by
  unfold wpX_depth
  have L : ∀ e, et_th t e = true → ∀ c, post (nI (c + dp e)) → ∃ n, wX_depth_9 post f_there f_isAlias f_serial f_tokens f_found a_parents a_names a_aliases a_serials a_under a_below a_having a_any a_yes a_no a_open a_known a_kinds a_attributes a_values a_isTrue a_isFalse n (nI c) (q e) := by
    apply et_ind hTr
    · intro c h
      rw [hTr.2.1]
      rw [hTr.2.2.1] at h
      exact ⟨1, br_t (by decide) h⟩
    · intro e he h0 hp ih c h
      have w := hTr.2.2.2 e he h0
      obtain ⟨n, hn⟩ := ih (c + 1) (by rw [w.2.2] at h; rw [show c + 1 + dp (et_pa q e) = c + (dp (et_pa q e) + 1) by omega]; exact h)
      have lt := et_th_lt hp
      rw [w.1]
      exact ⟨n + 1, br_f (nI_pos (by omega)) (nm_r (nI_1 c) ⟨vp_in_nI lt (by decide), nm_r (e' := q (et_pa q e)) (by rw [nI_clamp (by omega)]; exact hP _ hp) hn⟩)⟩
  have lt := et_th_lt he
  exact ⟨vp_in_nI lt (by decide), nm_r (e' := q e) (by rw [nI_clamp (by omega)]; exact hP _ he) (L e he 0 (by rw [Nat.zero_add]; exact h))⟩
end
/-! what an entry leads to -/
def et_ld (t l : Nat → Int32) : Nat → Int32 → Int32
  | 0, _ => -2
  | d + 1, x => if x < 0 then -2 else if et_al t l x.toNatClampNeg = true then et_ld t l d (l x.toNatClampNeg) else x
def et_V (t : Nat → Int32) (x : Int32) : Prop := x = -2 ∨ ∃ j, et_th t j = true ∧ x = nI j
section
variable {t q l : Nat → Int32}
theorem et_ld_n (d : Nat) : et_ld t l d (-2) = -2 := by
  cases d
  · rfl
  · show (if (-2 : Int32) < 0 then (-2 : Int32) else _) = -2
    rw [if_pos (by decide)]
theorem et_ld_f {d j : Nat} (hj : j < 48) (h : et_al t l j = false) : et_ld t l (d + 1) (nI j) = nI j := by
  show (if nI j < 0 then _ else if et_al t l (nI j).toNatClampNeg = true then _ else _) = _
  rw [if_neg (nI_pos (by omega)), nI_clamp (by omega), if_neg (by rw [h]; decide)]
theorem et_ld_t {d j : Nat} (hj : j < 48) (h : et_al t l j = true) : et_ld t l (d + 1) (nI j) = et_ld t l d (l j) := by
  show (if nI j < 0 then _ else if et_al t l (nI j).toNatClampNeg = true then _ else _) = _
  rw [if_neg (nI_pos (by omega)), nI_clamp (by omega), if_pos h]
theorem et_al_th {i : Nat} (h : et_al t l i = true) : et_th t i = true := by
  unfold et_al at h; rw [Bool.and_eq_true] at h; exact h.1
theorem et_al_ne {i : Nat} (h : et_al t l i = true) : ¬ l i = -1 := by
  unfold et_al at h; rw [Bool.and_eq_true] at h
  intro z
  rw [decide_eq_true z] at h
  exact absurd h.2 (by decide)
theorem et_al_f {i : Nat} (hi : et_th t i = true) (h : et_al t l i = false) : l i = -1 := by
  unfold et_al at h
  rw [hi, Bool.true_and] at h
  by_cases z : l i = -1
  · exact z
  · rw [decide_eq_false z] at h; cases h
theorem et_al_0 (h : er_AlY t q l) : et_al t l 0 = false := by
  unfold et_al; rw [h.1, decide_eq_true rfl, Bool.not_true, Bool.and_false]
/-- a chain of n aliases to an entry that is none -/
def et_tm (t l : Nat → Int32) : Nat → Nat → Bool
  | 0, j => et_th t j && !et_al t l j
  | n + 1, j => et_al t l j && !decide (l j < 0) && et_tm t l n (l j).toNatClampNeg
def et_tl (t l : Nat → Int32) : Nat → Nat → Bool
  | 0, _ => false
  | n + 1, j => et_tl t l n j || et_tm t l (n + 1) j
theorem et_tm_nx (hY : er_AlY t q l) {n j : Nat} (h : et_tm t l (n + 1) j = true) : et_al t l j = true ∧ ∃ i, et_th t i = true ∧ l j = nI i ∧ et_tm t l n i = true := by
  unfold et_tm at h
  rw [Bool.and_eq_true, Bool.and_eq_true] at h
  refine ⟨h.1.1, ?_⟩
  rcases hY.2.1 j h.1.1 with z | ⟨i, hi, z⟩
  · rw [z] at h; exact absurd h.1.2 (by decide)
  · refine ⟨i, hi, z, ?_⟩
    have := h.2
    rw [z, nI_clamp (by have := et_th_lt hi; omega)] at this
    exact this
theorem et_tm_ld (hY : er_AlY t q l) : ∀ n j, et_th t j = true → et_tm t l n j = true → ∀ d, et_ld t l (n + 1 + d) (nI j) = et_ld t l (n + 1) (nI j) := by
  intro n
  induction n with
  | zero =>
    intro j hj h d
    unfold et_tm at h
    rw [hj, Bool.true_and] at h
    have a : et_al t l j = false := by
      cases z : et_al t l j
      · rfl
      · rw [z] at h; cases h
    rw [show 0 + 1 + d = d + 1 by omega, et_ld_f (et_th_lt hj) a, et_ld_f (et_th_lt hj) a]
  | succ n ih =>
    intro j hj h d
    obtain ⟨ha, i, hi, e, hn⟩ := et_tm_nx hY h
    rw [show n + 1 + 1 + d = (n + 1 + d) + 1 by omega, et_ld_t (et_th_lt hj) ha, et_ld_t (et_th_lt hj) ha, e]
    exact ih i hi hn d
theorem et_ld_tm (hY : er_AlY t q l) : ∀ d j, et_th t j = true → ¬ et_ld t l d (nI j) = -2 → ∃ n, n < d ∧ et_tm t l n j = true := by
  intro d
  induction d with
  | zero => intro j hj h; exact absurd rfl h
  | succ d ih =>
    intro j hj h
    cases ha : et_al t l j
    · refine ⟨0, by omega, ?_⟩
      unfold et_tm; rw [hj, ha]; rfl
    · rw [et_ld_t (et_th_lt hj) ha] at h
      rcases hY.2.1 j ha with z | ⟨i, hi, z⟩
      · rw [z, et_ld_n] at h; exact absurd rfl h
      · rw [z] at h
        obtain ⟨n, hn, hm⟩ := ih i hi h
        refine ⟨n + 1, by omega, ?_⟩
        have := et_th_lt hi
        unfold et_tm
        rw [ha, z, nI_clamp (by omega), hm, decide_eq_false (nI_pos (by omega))]; rfl
theorem et_tm_det (hY : er_AlY t q l) : ∀ n m j, et_tm t l n j = true → et_tm t l m j = true → n = m := by
  intro n
  induction n with
  | zero =>
    intro m j h h'
    cases m with
    | zero => rfl
    | succ m =>
      have := (et_tm_nx hY h').1
      unfold et_tm at h
      rw [this] at h
      rw [Bool.and_eq_true] at h
      exact absurd h.2 (by decide)
  | succ n ih =>
    intro m j h h'
    cases m with
    | zero =>
      have := (et_tm_nx hY h).1
      unfold et_tm at h'
      rw [this] at h'
      rw [Bool.and_eq_true] at h'
      exact absurd h'.2 (by decide)
    | succ m =>
      obtain ⟨_, i, hi, e, hn⟩ := et_tm_nx hY h
      obtain ⟨_, i', hi', e', hn'⟩ := et_tm_nx hY h'
      have : i = i' := (nI_eq (by have := et_th_lt hi; omega) (by have := et_th_lt hi'; omega)).mp (e.symm.trans e')
      subst this
      rw [ih m i hn hn']
theorem et_tl_ex : ∀ n j, et_tl t l n j = true → ∃ i, 1 ≤ i ∧ i ≤ n ∧ et_tm t l i j = true := by
  intro n
  induction n with
  | zero => intro j h; cases h
  | succ n ih =>
    intro j h
    unfold et_tl at h
    rw [Bool.or_eq_true] at h
    rcases h with h | h
    · obtain ⟨i, a, b, c⟩ := ih j h; exact ⟨i, a, by omega, c⟩
    · exact ⟨n + 1, by omega, by omega, h⟩
theorem et_tl_cn (hY : er_AlY t q l) : ∀ n j, et_tm t l n j = true → n ≤ et_cn (et_tl t l n) 48 := by
  intro n
  induction n with
  | zero => intro j _; omega
  | succ n ih =>
    intro j h
    obtain ⟨ha, i, hi, e, hn⟩ := et_tm_nx hY h
    have a := ih i hn
    have b : et_cn (et_tl t l n) 48 < et_cn (et_tl t l (n + 1)) 48 := by
      refine et_cn_lt (e := j) (et_th_lt (et_al_th ha)) ?_ ?_ ?_
      · cases z : et_tl t l n j
        · rfl
        · obtain ⟨m, _, hm, w⟩ := et_tl_ex n j z
          have := et_tm_det hY _ _ j h w
          omega
      · unfold et_tl; rw [h, Bool.or_true]
      · intro i _ z; unfold et_tl; rw [z, Bool.true_or]
    omega
theorem et_tm_47 (hY : er_AlY t q l) {n j : Nat} (h : et_tm t l n j = true) : n ≤ 47 := by
  have a := et_tl_cn hY n j h
  have b : et_cn (et_tl t l n) 48 < et_cn (fun _ => true) 48 := by
    refine et_cn_lt (e := 0) (by decide) ?_ rfl (fun _ _ _ => rfl)
    cases z : et_tl t l n 0
    · rfl
    · obtain ⟨m, h1, _, w⟩ := et_tl_ex n 0 z
      obtain ⟨m, rfl⟩ : ∃ k, m = k + 1 := ⟨m - 1, by omega⟩
      have := (et_tm_nx hY w).1
      rw [et_al_0 hY] at this
      cases this
  have c := et_cn_le (fun _ => true) 48
  omega
/-- 48 looks are enough -/
theorem et_ld_48 (hY : er_AlY t q l) {x : Int32} (hx : et_V t x) : et_ld t l 50 x = et_ld t l 48 x := by
  rcases hx with rfl | ⟨j, hj, rfl⟩
  · rw [et_ld_n, et_ld_n]
  · by_cases h : ∃ n, et_tm t l n j = true
    · obtain ⟨n, hn⟩ := h
      have := et_tm_47 hY hn
      have a := et_tm_ld hY n j hj hn (49 - n)
      have b := et_tm_ld hY n j hj hn (47 - n)
      rw [show n + 1 + (49 - n) = 50 by omega] at a
      rw [show n + 1 + (47 - n) = 48 by omega] at b
      rw [a, b]
    · have : ∀ d, et_ld t l d (nI j) = -2 := fun d => by
        apply Classical.byContradiction
        intro z
        obtain ⟨n, _, hn⟩ := et_ld_tm hY d j hj z
        exact h ⟨n, hn⟩
      rw [this, this]
/-- what it leads to is there and no alias -/
theorem et_ld_V (hY : er_AlY t q l) : ∀ d x, et_V t x → et_ld t l d x = -2 ∨ ∃ j, et_th t j = true ∧ et_al t l j = false ∧ et_ld t l d x = nI j := by
  intro d
  induction d with
  | zero => intro x _; exact Or.inl rfl
  | succ d ih =>
    intro x hx
    rcases hx with rfl | ⟨j, hj, rfl⟩
    · exact Or.inl (et_ld_n _)
    · cases ha : et_al t l j
      · exact Or.inr ⟨j, hj, ha, et_ld_f (et_th_lt hj) ha⟩
      · rw [et_ld_t (et_th_lt hj) ha]
        exact ih _ (hY.2.1 j ha)
end
section
variable {f_there f_isAlias f_found : Int64} {f_serial f_tokens : Int32} {a_parents a_names a_aliases a_serials a_known a_kinds a_attributes a_values : Nat → Int32} {a_under a_below a_having a_any a_yes a_no a_open a_isTrue a_isFalse : Nat → Int64}
variable {post : Int32 → Prop} {t q l nm : Nat → Int32} {dp : Nat → Nat}
theorem ex_leads (hA : er_Ali t l f_isAlias a_aliases) (hY : er_AlY t q l) {x : Int32} (hx : et_V t x) (h : post (et_ld t l 48 x)) : wpX_leads post (f_there, f_isAlias, f_serial, f_tokens, f_found, a_parents, a_names, a_aliases, a_serials, a_under, a_below, a_having, a_any, a_yes, a_no, a_open, a_known, a_kinds, a_attributes, a_values, a_isTrue, a_isFalse) x := by
  unfold wpX_leads
  have L : ∀ d k x, k + d = 48 → et_V t x → post (et_ld t l d x) → wX_leads_4 post f_there f_isAlias f_serial f_tokens f_found a_parents a_names a_aliases a_serials a_under a_below a_having a_any a_yes a_no a_open a_known a_kinds a_attributes a_values a_isTrue a_isFalse (d + 1) x (nI k) := by
    intro d
    induction d with
    | zero =>
      intro k x hk hx h
      obtain rfl : k = 48 := by omega
      exact br_t (nI_le (a := 48) (b := 48) (Nat.le_refl _) (by decide)) h
    | succ d ih =>
      intro k x hk hx h
      refine br_f (nI_ge (b := 48) (by omega) (by decide)) ?_
      rcases hx with rfl | ⟨j, hj, rfl⟩
      · rw [et_ld_n] at h
        exact br_t (by decide) h
      · have lt := et_th_lt hj
        refine br_f (nI_pos (by omega)) ?_
        cases ha : et_al t l j
        · rw [et_ld_f lt ha] at h
          exact br_t (eb_shr0 ((hA.1 j).trans ha) (by omega)) h
        · rw [et_ld_t lt ha] at h
          exact br_f (eb_shr1 ((hA.1 j).trans ha)) ⟨vp_in_nI lt (by decide), nm_r (e' := l j) (by rw [nI_clamp (by omega)]; exact hA.2 j ha) (nm_r (nI_1 k) (ih (k + 1) _ (by omega) (hY.2.1 j ha) h))⟩
  exact ⟨49, L 48 0 x (by omega) hx h⟩
theorem ex_within {post : Int64 → Prop} {a f g : Nat} (ha : a < 6) (hf : f ≤ g) (hg : g < 16)
    (H : ∀ s, (∀ e, eb_t s e = true ↔ ∃ v, f ≤ v ∧ v ≤ g ∧ eb_t (a_having (16 * a + v)) e = true) → post s) : wpX_within post (f_there, f_isAlias, f_serial, f_tokens, f_found, a_parents, a_names, a_aliases, a_serials, a_under, a_below, a_having, a_any, a_yes, a_no, a_open, a_known, a_kinds, a_attributes, a_values, a_isTrue, a_isFalse) (nI a) (nI f) (nI g) := by
  unfold wpX_within
  have L : ∀ d i s, i + d = g + 1 → f ≤ i → (∀ e, eb_t s e = true ↔ ∃ v, f ≤ v ∧ v < i ∧ eb_t (a_having (16 * a + v)) e = true) → wX_within_6 post (nI a) (nI g) f_there f_isAlias f_serial f_tokens f_found a_parents a_names a_aliases a_serials a_under a_below a_having a_any a_yes a_no a_open a_known a_kinds a_attributes a_values a_isTrue a_isFalse (d + 1) s (nI i) := by
    intro d
    induction d with
    | zero =>
      intro i s hi hfi hs
      refine br_t (nI_lt (by omega) (by omega)) (H s (fun e => (hs e).trans ⟨fun ⟨v, a, b, c⟩ => ⟨v, a, by omega, c⟩, fun ⟨v, a, b, c⟩ => ⟨v, a, by omega, c⟩⟩))
    | succ d ih =>
      intro i s hi hfi hs
      have e1 : (16 * nI a) + nI i = nI (16 * a + i) := by rw [show (16 : Int32) = nI 16 from rfl, pk_mul, nI_add]
      refine br_f (nI_nlt (by omega) (by omega)) ⟨by rw [e1]; exact vp_in_nI (by omega) (by decide), nm_r (e' := s ||| a_having (16 * a + i)) (by rw [e1, nI_clamp (by omega)]) (nm_r (nI_1 i) (ih (i + 1) _ (by omega) (by omega) (fun e => ?_)))⟩
      rw [eb_or, Bool.or_eq_true, hs e]
      constructor
      · rintro (⟨v, x, y, z⟩ | z)
        · exact ⟨v, x, by omega, z⟩
        · exact ⟨i, by omega, by omega, z⟩
      · rintro ⟨v, x, y, z⟩
        by_cases w : v = i
        · subst w; exact Or.inr z
        · exact Or.inl ⟨v, x, by omega, z⟩
  refine ⟨g + 1 - f + 1, L (g + 1 - f) f 0 (by omega) (Nat.le_refl f) (fun e => ?_)⟩
  rw [eb_0]
  exact ⟨fun z => (by cases z), fun ⟨v, a, b, _⟩ => by omega⟩
end
end
section
/-! ===== the reference's helpers ===== -/
section
variable {g_tokens g_serial : Int32} {b_there b_parent b_name b_alias b_serials b_sets b_rules b_kinds b_attributes b_numbers b_stack b_searched b_gone b_finds : Nat → Int32}
variable {post : Int32 → Prop} {dp : Nat → Nat}
theorem ey_in_t {j N : Nat} (hj : j < N) (hN : N < 2 ^ 31) (h : post 1) : wpY_in post (nI j) (nI N) :=
  br_f (nI_pos (by omega)) (br_f (nI_ge hj hN) h)
theorem ey_in_f {p : Int32} {N : Nat} (hN : N < 2 ^ 31) (hp : ¬ em_I N p) (h : post 0) : wpY_in post p (nI N) := by
  rcases pk_ix p hN with z | z | z
  · exact br_t z h
  · exact br_f (em_nn hN z) (br_t z h)
  · exact absurd z hp
theorem ey_isThere_t {j : Nat} (hj : et_th b_there j = true) (h : post 1) : wpY_isThere post (g_tokens, g_serial, b_there, b_parent, b_name, b_alias, b_serials, b_sets, b_rules, b_kinds, b_attributes, b_numbers, b_stack, b_searched, b_gone, b_finds) (nI j) := by
  unfold wpY_isThere
  have lt := et_th_lt hj
  exact ey_in_t (N := 48) lt (by decide) (br_f em_10 ⟨vp_in_nI lt (by decide), br_f (by rw [nI_clamp (by omega)]; exact et_th_ne hj) h⟩)
theorem ey_isThere_f {p : Int32} (hp : ¬ et_T b_there p) (h : post 0) : wpY_isThere post (g_tokens, g_serial, b_there, b_parent, b_name, b_alias, b_serials, b_sets, b_rules, b_kinds, b_attributes, b_numbers, b_stack, b_searched, b_gone, b_finds) p := by
  unfold wpY_isThere
  by_cases z : em_I 48 p
  · obtain ⟨j, hj, rfl⟩ := z
    refine ey_in_t (N := 48) hj (by decide) (br_f em_10 ⟨vp_in_nI hj (by decide), br_t ?_ h⟩)
    rw [nI_clamp (by omega)]
    apply Classical.byContradiction
    intro w
    exact hp ⟨j, et_th_of hj w, rfl⟩
  · exact ey_in_f (N := 48) (by decide) z (br_t rfl h)
theorem ey_isAlias {j : Nat} (hj : et_th b_there j = true) (h : post (em_b (et_al b_there b_alias j))) : wpY_isAlias post (g_tokens, g_serial, b_there, b_parent, b_name, b_alias, b_serials, b_sets, b_rules, b_kinds, b_attributes, b_numbers, b_stack, b_searched, b_gone, b_finds) (nI j) := by
  unfold wpY_isAlias
  have lt := et_th_lt hj
  have e : (nI j).toNatClampNeg = j := nI_clamp (by omega)
  refine ⟨vp_in_nI lt (by decide), ?_⟩
  unfold et_al at h
  rw [hj, Bool.true_and] at h
  by_cases z : b_alias j = -1
  · rw [decide_eq_true z] at h
    exact br_t (by rw [e]; exact z) h
  · rw [decide_eq_false z] at h
    exact br_f (by rw [e]; exact z) h
theorem ey_isBelow (hTr : et_Tr dp b_there b_parent) {e a : Nat} (he : et_th b_there e = true) (ha : a < 48) (h : post (em_b (et_B dp b_parent e a))) : wpY_isBelow post (g_tokens, g_serial, b_there, b_parent, b_name, b_alias, b_serials, b_sets, b_rules, b_kinds, b_attributes, b_numbers, b_stack, b_searched, b_gone, b_finds) (nI e) (nI a) := by
  unfold wpY_isBelow
  have L : ∀ e, et_th b_there e = true → post (em_b (et_B dp b_parent e a)) → ∃ n, wY_isBelow_7 post (nI a) g_tokens g_serial b_there b_parent b_name b_alias b_serials b_sets b_rules b_kinds b_attributes b_numbers b_stack b_searched b_gone b_finds n (b_parent e) := by
    apply et_ind hTr
    · intro h
      rw [et_B_root hTr] at h
      rw [hTr.2.1]
      exact ⟨1, br_t (by decide) (br_t (by decide) h)⟩
    · intro e he h0 hp ih h
      have lt := et_th_lt hp
      rw [et_B_step hTr he h0] at h
      rw [et_q hTr he h0]
      by_cases z : a = et_pa b_parent e
      · rw [decide_eq_true z, Bool.true_or] at h
        exact ⟨1, br_f (nI_pos (by omega)) (br_t (by rw [z]) (br_f (nI_pos (by omega)) h))⟩
      · rw [decide_eq_false z, Bool.false_or] at h
        obtain ⟨n, hn⟩ := ih h
        exact ⟨n + 1, br_f (nI_pos (by omega)) (br_f (fun w => z ((nI_eq (by omega) (by omega)).mp w).symm) ⟨vp_in_nI lt (by decide), nm_r (e' := b_parent (et_pa b_parent e)) (by rw [nI_clamp (by omega)]) hn⟩)⟩
  have lt := et_th_lt he
  exact ⟨vp_in_nI lt (by decide), nm_r (e' := b_parent e) (by rw [nI_clamp (by omega)]) (L e he h)⟩
theorem ey_depth (hTr : et_Tr dp b_there b_parent) {e : Nat} (he : et_th b_there e = true) (h : post (nI (dp e))) : wpY_depth post (g_tokens, g_serial, b_there, b_parent, b_name, b_alias, b_serials, b_sets, b_rules, b_kinds, b_attributes, b_numbers, b_stack, b_searched, b_gone, b_finds) (nI e) := by
  unfold wpY_depth
  have L : ∀ e, et_th b_there e = true → ∀ c, post (nI (c + dp e)) → ∃ n, wY_depth_9 post g_tokens g_serial b_there b_parent b_name b_alias b_serials b_sets b_rules b_kinds b_attributes b_numbers b_stack b_searched b_gone b_finds n (nI c) (b_parent e) := by
    apply et_ind hTr
    · intro c h
      rw [hTr.2.1]
      rw [hTr.2.2.1] at h
      exact ⟨1, br_t (by decide) h⟩
    · intro e he h0 hp ih c h
      have w := hTr.2.2.2 e he h0
      obtain ⟨n, hn⟩ := ih (c + 1) (by rw [w.2.2] at h; rw [show c + 1 + dp (et_pa b_parent e) = c + (dp (et_pa b_parent e) + 1) by omega]; exact h)
      have lt := et_th_lt hp
      rw [w.1]
      exact ⟨n + 1, br_f (nI_pos (by omega)) (nm_r (nI_1 c) ⟨vp_in_nI lt (by decide), nm_r (e' := b_parent (et_pa b_parent e)) (by rw [nI_clamp (by omega)]) hn⟩)⟩
  have lt := et_th_lt he
  exact ⟨vp_in_nI lt (by decide), nm_r (e' := b_parent e) (by rw [nI_clamp (by omega)]) (L e he 0 (by rw [Nat.zero_add]; exact h))⟩
theorem ey_leadsTo (hY : er_AlY b_there b_parent b_alias) {x : Int32} (hx : et_V b_there x) (h : post (et_ld b_there b_alias 48 x)) : wpY_leadsTo post (g_tokens, g_serial, b_there, b_parent, b_name, b_alias, b_serials, b_sets, b_rules, b_kinds, b_attributes, b_numbers, b_stack, b_searched, b_gone, b_finds) x := by
  unfold wpY_leadsTo
  have F : ∀ x, et_V b_there x → post (et_ld b_there b_alias 1 x) → wY_leadsTo_35 post x g_tokens g_serial b_there b_parent b_name b_alias b_serials b_sets b_rules b_kinds b_attributes b_numbers b_stack b_searched b_gone b_finds := by
    intro x hx h
    rcases hx with rfl | ⟨j, hj, rfl⟩
    · rw [et_ld_n] at h
      exact br_t (by decide) h
    · have lt := et_th_lt hj
      refine br_f (nI_pos (by omega)) (ey_isAlias hj ?_)
      cases ha : et_al b_there b_alias j
      · rw [et_ld_f lt ha] at h
        exact br_t rfl h
      · rw [et_ld_t lt ha] at h
        exact br_f em_10 h
  have L : ∀ d k x, k + d = 49 → et_V b_there x → post (et_ld b_there b_alias (d + 1) x) → wY_leadsTo_4 post g_tokens g_serial b_there b_parent b_name b_alias b_serials b_sets b_rules b_kinds b_attributes b_numbers b_stack b_searched b_gone b_finds (d + 1) x (nI k) := by
    intro d
    induction d with
    | zero =>
      intro k x hk hx h
      obtain rfl : k = 49 := by omega
      exact br_t (nI_lt (a := 48) (by omega) (by decide)) (F x hx h)
    | succ d ih =>
      intro k x hk hx h
      refine br_f (nI_nlt (b := k) (a := 48) (by omega) (by decide)) ?_
      rcases hx with rfl | ⟨j, hj, rfl⟩
      · rw [et_ld_n] at h
        exact br_t (by decide) (br_t (by decide) h)
      · have lt := et_th_lt hj
        refine br_f (nI_pos (by omega)) (ey_isAlias hj ?_)
        cases ha : et_al b_there b_alias j
        · rw [et_ld_f lt ha] at h
          exact br_t rfl (F _ (Or.inr ⟨j, hj, rfl⟩) (by rw [et_ld_f lt ha]; exact h))
        · rw [et_ld_t lt ha] at h
          exact br_f em_10 ⟨vp_in_nI lt (by decide), nm_r (e' := b_alias j) (by rw [nI_clamp (by omega)]) (nm_r (nI_1 k) (ih (k + 1) _ (by omega) (hY.2.1 j ha) h))⟩
  exact ⟨50, L 49 0 x (by omega) hx (by rw [et_ld_48 hY hx]; exact h)⟩
theorem ey_child {p : Nat} {w : Int32} (hTr : et_Tr dp b_there b_parent) (hp : et_th b_there p = true)
    (h : post (et_fs (fun e => et_th b_there e && decide (b_parent e = nI p) && decide (b_name e = w)) 48 0)) : wpY_child post (g_tokens, g_serial, b_there, b_parent, b_name, b_alias, b_serials, b_sets, b_rules, b_kinds, b_attributes, b_numbers, b_stack, b_searched, b_gone, b_finds) (nI p) w := by
  unfold wpY_child
  have L : ∀ d i, i + d = 48 → post (et_fs (fun e => et_th b_there e && decide (b_parent e = nI p) && decide (b_name e = w)) d i) → wY_child_12 post (nI p) w g_tokens g_serial b_there b_parent b_name b_alias b_serials b_sets b_rules b_kinds b_attributes b_numbers b_stack b_searched b_gone b_finds (d + 1) (nI i) := by
    intro d
    induction d with
    | zero =>
      intro i hi h
      obtain rfl : i = 48 := by omega
      exact br_t (nI_le (a := 48) (b := 48) (Nat.le_refl _) (by decide)) h
    | succ d ih =>
      intro i hi h
      have e : (nI i).toNatClampNeg = i := nI_clamp (by omega)
      have v : vp_in (nI i) 48 := vp_in_nI (by omega) (by decide)
      refine br_f (nI_ge (b := 48) (by omega) (by decide)) ⟨v, ?_⟩
      cases ht : et_th b_there i
      · rw [et_fs_f (by rw [ht]; rfl)] at h
        exact br_t (by rw [e]; exact et_th_f ht (by omega)) (nm_r (nI_1 i) (ih (i + 1) (by omega) h))
      · refine br_f (by rw [e]; exact et_th_ne ht) ⟨v, ?_⟩
        by_cases hq : b_parent i = nI p
        · refine br_t (by rw [e]; exact hq) ⟨v, ?_⟩
          by_cases hn : b_name i = w
          · rw [et_fs_t (by rw [ht, decide_eq_true hq, decide_eq_true hn]; rfl)] at h
            exact br_t (by rw [e]; exact hn) h
          · rw [et_fs_f (by rw [ht, decide_eq_true hq, decide_eq_false hn]; rfl)] at h
            exact br_f (by rw [e]; exact hn) (nm_r (nI_1 i) (ih (i + 1) (by omega) h))
        · rw [et_fs_f (by rw [ht, decide_eq_false hq]; rfl)] at h
          exact br_f (by rw [e]; exact hq) (nm_r (nI_1 i) (ih (i + 1) (by omega) h))
  refine ey_isThere_t hp (br_f em_10 ⟨48, L 47 1 (by omega) ?_⟩)
  rw [et_fs_f (d := 47) (i := 0)] at h
  · exact h
  · have : ¬ b_parent 0 = nI p := fun z => ((et_q_iff hTr hTr.1 (et_th_lt hp)).mp z).1 rfl
    rw [decide_eq_false this, Bool.and_false, Bool.false_and]
theorem ey_under {p : Int32} (h : post (nI (et_cn (fun e => et_th b_there e && decide (b_parent e = p)) 48))) : wpY_under post (g_tokens, g_serial, b_there, b_parent, b_name, b_alias, b_serials, b_sets, b_rules, b_kinds, b_attributes, b_numbers, b_stack, b_searched, b_gone, b_finds) p := by
  unfold wpY_under
  have L : ∀ d i, i + d = 48 → wY_under_4 post p g_tokens g_serial b_there b_parent b_name b_alias b_serials b_sets b_rules b_kinds b_attributes b_numbers b_stack b_searched b_gone b_finds (d + 1) (nI (et_cn (fun e => et_th b_there e && decide (b_parent e = p)) i)) (nI i) := by
    intro d
    induction d with
    | zero =>
      intro i hi
      obtain rfl : i = 48 := by omega
      exact br_t (nI_le (a := 48) (b := 48) (Nat.le_refl _) (by decide)) h
    | succ d ih =>
      intro i hi
      have ih := ih (i + 1) (by omega)
      have e : (nI i).toNatClampNeg = i := nI_clamp (by omega)
      have v : vp_in (nI i) 48 := vp_in_nI (by omega) (by decide)
      refine br_f (nI_ge (b := 48) (by omega) (by decide)) ⟨v, ?_⟩
      cases ht : et_th b_there i
      · rw [et_cn_f (by rw [ht]; rfl)] at ih
        exact br_t (by rw [e]; exact et_th_f ht (by omega)) (nm_r (nI_1 i) ih)
      · refine br_f (by rw [e]; exact et_th_ne ht) ⟨v, ?_⟩
        by_cases hq : b_parent i = p
        · rw [et_cn_t (by rw [ht, decide_eq_true hq]; rfl)] at ih
          exact br_t (by rw [e]; exact hq) (nm_r (nI_1 _) (nm_r (nI_1 i) ih))
        · rw [et_cn_f (by rw [ht, decide_eq_false hq]; rfl)] at ih
          exact br_f (by rw [e]; exact hq) (nm_r (nI_1 i) ih)
  exact ⟨49, L 48 0 (by omega)⟩
theorem ey_below (hTr : et_Tr dp b_there b_parent) {a : Nat} (ha : a < 48) (h : post (nI (et_cn (fun e => et_th b_there e && et_B dp b_parent e a) 48))) : wpY_below post (g_tokens, g_serial, b_there, b_parent, b_name, b_alias, b_serials, b_sets, b_rules, b_kinds, b_attributes, b_numbers, b_stack, b_searched, b_gone, b_finds) (nI a) := by
  unfold wpY_below
  have L : ∀ d i, i + d = 48 → wY_below_4 post (nI a) g_tokens g_serial b_there b_parent b_name b_alias b_serials b_sets b_rules b_kinds b_attributes b_numbers b_stack b_searched b_gone b_finds (d + 1) (nI (et_cn (fun e => et_th b_there e && et_B dp b_parent e a) i)) (nI i) := by
    intro d
    induction d with
    | zero =>
      intro i hi
      obtain rfl : i = 48 := by omega
      exact br_t (nI_le (a := 48) (b := 48) (Nat.le_refl _) (by decide)) h
    | succ d ih =>
      intro i hi
      have ih := ih (i + 1) (by omega)
      have e : (nI i).toNatClampNeg = i := nI_clamp (by omega)
      have v : vp_in (nI i) 48 := vp_in_nI (by omega) (by decide)
      refine br_f (nI_ge (b := 48) (by omega) (by decide)) ⟨v, ?_⟩
      cases ht : et_th b_there i
      · rw [et_cn_f (by rw [ht]; rfl)] at ih
        exact br_t (by rw [e]; exact et_th_f ht (by omega)) (nm_r (nI_1 i) ih)
      · refine br_f (by rw [e]; exact et_th_ne ht) (ey_isBelow hTr ht ha ?_)
        cases hb : et_B dp b_parent i a
        · rw [et_cn_f (by rw [ht, hb]; rfl)] at ih
          exact br_t rfl (nm_r (nI_1 i) ih)
        · rw [et_cn_t (by rw [ht, hb]; rfl)] at ih
          exact br_f em_10 (nm_r (nI_1 _) (nm_r (nI_1 i) ih))
  exact ⟨49, L 48 0 (by omega)⟩
theorem em_ix (e g a : Nat) : ((24 * nI e) + (6 * nI g)) + nI a = nI (24 * e + (6 * g + a)) := by
  rw [show (24 : Int32) = nI 24 from rfl, show (6 : Int32) = nI 6 from rfl, pk_mul, pk_mul, nI_add, nI_add, Nat.add_assoc]
theorem ey_mayRead (hTr : et_Tr dp b_there b_parent) {e g a : Nat} (he : et_th b_there e = true) (hg : g < 4) (ha : a < 6)
    (h : post (em_b (et_R dp b_parent b_rules (6 * g + a) e))) : wpY_mayRead post (g_tokens, g_serial, b_there, b_parent, b_name, b_alias, b_serials, b_sets, b_rules, b_kinds, b_attributes, b_numbers, b_stack, b_searched, b_gone, b_finds) (nI e) (nI g) (nI a) := by
  unfold wpY_mayRead
  have S : ∀ e, e < 48 → ∀ n, (b_rules (24 * e + (6 * g + a)) < 0 → wY_mayRead_3 post (nI g) (nI a) g_tokens g_serial b_there b_parent b_name b_alias b_serials b_sets b_rules b_kinds b_attributes b_numbers b_stack b_searched b_gone b_finds n (b_parent e)) → (¬ b_rules (24 * e + (6 * g + a)) < 0 → post (em_b (decide (b_rules (24 * e + (6 * g + a)) = 1)))) → wY_mayRead_3 post (nI g) (nI a) g_tokens g_serial b_there b_parent b_name b_alias b_serials b_sets b_rules b_kinds b_attributes b_numbers b_stack b_searched b_gone b_finds (n + 1) (nI e) := by
    intro e he n f1 f2
    have c : (nI (24 * e + (6 * g + a))).toNatClampNeg = 24 * e + (6 * g + a) := nI_clamp (by omega)
    have v : vp_in (((24 * nI e) + (6 * nI g)) + nI a) 1152 := by rw [em_ix]; exact vp_in_nI (by omega) (by decide)
    refine br_f (nI_pos (by omega)) ⟨v, ?_⟩
    rw [em_ix, c]
    by_cases z : b_rules (24 * e + (6 * g + a)) < 0
    · exact br_t z ⟨vp_in_nI he (by decide), nm_r (e' := b_parent e) (by rw [nI_clamp (by omega)]) (f1 z)⟩
    · refine br_f z ⟨vp_in_nI (by omega) (by decide), ?_⟩
      have := f2 z
      by_cases w : b_rules (24 * e + (6 * g + a)) = 1
      · rw [decide_eq_true w] at this; exact br_t w this
      · rw [decide_eq_false w] at this; exact br_f w this
  have L : ∀ e, et_th b_there e = true → post (em_b (et_R dp b_parent b_rules (6 * g + a) e)) → ∃ n, wY_mayRead_3 post (nI g) (nI a) g_tokens g_serial b_there b_parent b_name b_alias b_serials b_sets b_rules b_kinds b_attributes b_numbers b_stack b_searched b_gone b_finds n (nI e) := by
    apply et_ind hTr
    · intro h
      rw [et_R_root hTr] at h
      refine ⟨2, S 0 (by decide) 1 (fun z => ?_) (fun z => ?_)⟩
      · rw [if_pos z] at h
        rw [hTr.2.1]
        exact br_t (by decide) h
      · rw [if_neg z] at h; exact h
    · intro e he h0 hp ih h
      rw [et_R_step hTr _ _ he h0] at h
      by_cases z : b_rules (24 * e + (6 * g + a)) < 0
      · rw [if_pos z] at h
        obtain ⟨n, hn⟩ := ih h
        exact ⟨n + 1, S e (et_th_lt he) n (fun _ => by rw [et_q hTr he h0]; exact hn) (fun w => absurd z w)⟩
      · rw [if_neg z] at h
        exact ⟨1, S e (et_th_lt he) 0 (fun w => absurd w z) (fun _ => h)⟩
  exact L e he h
end
end
section
/-! ===== the component's rights: level by level ===== -/
section
variable {dp : Nat → Nat} {t q ru : Nat → Int32}
theorem et_dp0 (h : et_Tr dp t q) {e : Nat} (he : et_th t e = true) : dp e = 0 ↔ e = 0 := by
  constructor
  · intro z
    apply Classical.byContradiction
    intro w
    have := (h.2.2.2 e he w).2.2
    omega
  · intro z; rw [z]; exact h.2.2.1
/-- if no entry has depth d, all are above it -/
theorem et_dp_lt (h : et_Tr dp t q) {d : Nat} (hd : ∀ e, et_th t e = true → dp e ≠ d) : ∀ e, et_th t e = true → dp e < d := by
  apply et_ind h
  · have := hd 0 h.1
    rw [h.2.2.1] at this ⊢
    omega
  · intro e he h0 hp ih
    have := hd e he
    have w := (h.2.2.2 e he h0).2.2
    omega
def ex_ri (dp : Nat → Nat) (t q ru : Nat → Int32) (k d m : Nat) (s : Int64 × Int64) : Prop :=
  (∀ e, eb_t s.1 e = (et_th t e && (decide (dp e ≤ d) || (decide (dp e = d + 1) && decide (et_pa q e < m))) && et_R dp q ru k e)) ∧ ∀ e, eb_t s.2 e = (et_th t e && (decide (dp e = d + 1) && decide (et_pa q e < m)))
theorem ex_ri_0 {k d : Nat} {s : Int64} (h : ∀ e, eb_t s e = (et_th t e && decide (dp e ≤ d) && et_R dp q ru k e)) : ex_ri dp t q ru k d 0 (s, 0) := by
  refine ⟨fun e => ?_, fun e => ?_⟩
  · show eb_t s e = _
    rw [h, decide_eq_false (Nat.not_lt_zero _), Bool.and_false, Bool.or_false]
  · show eb_t 0 e = _
    rw [eb_0, decide_eq_false (Nat.not_lt_zero _), Bool.and_false, Bool.and_false]
theorem ex_ri_48 (hTr : et_Tr dp t q) {k d : Nat} {s : Int64 × Int64} (h : ex_ri dp t q ru k d 48 s) :
    (∀ e, eb_t s.1 e = (et_th t e && decide (dp e ≤ d + 1) && et_R dp q ru k e)) ∧ ∀ e, eb_t s.2 e = (et_th t e && decide (dp e = d + 1)) := by
  have L : ∀ e, et_th t e = true → (decide (dp e = d + 1) && decide (et_pa q e < 48)) = decide (dp e = d + 1) := by
    intro e he
    by_cases z : dp e = d + 1
    · have : e ≠ 0 := fun w => by rw [w, hTr.2.2.1] at z; omega
      rw [decide_eq_true (et_pa_lt hTr he this), Bool.and_true]
    · rw [decide_eq_false z, Bool.false_and]
  refine ⟨fun e => ?_, fun e => ?_⟩
  · rw [h.1 e]
    cases he : et_th t e
    · rfl
    · rw [L e he, Bool.true_and, Bool.true_and]
      congr 1
      by_cases z : dp e = d + 1
      · rw [decide_eq_true z, Bool.or_true, decide_eq_true (by omega)]
      · rw [decide_eq_false z, Bool.or_false]
        exact decide_eq_decide.mpr ⟨fun w => by omega, fun w => by omega⟩
  · rw [h.2 e]
    cases he : et_th t e
    · rfl
    · rw [L e he]
/-- the places below m and those below m + 1, when e is no child of m -/
theorem ex_ri_nc (hTr : et_Tr dp t q) {d m e : Nat} (he : et_th t e = true) (hn : ¬ (dp e = d + 1 ∧ et_pa q e = m)) : (decide (dp e = d + 1) && decide (et_pa q e < m + 1)) = (decide (dp e = d + 1) && decide (et_pa q e < m)) := by
  by_cases z : dp e = d + 1
  · congr 1
    exact decide_eq_decide.mpr ⟨fun w => by have : et_pa q e ≠ m := fun y => hn ⟨z, y⟩; omega, fun w => by omega⟩
  · rw [decide_eq_false z, Bool.false_and, Bool.false_and]
theorem ex_ri_skip (hTr : et_Tr dp t q) {k d m : Nat} {s : Int64 × Int64} (hm : et_th t m = false ∨ dp m ≠ d) (h : ex_ri dp t q ru k d m s) : ex_ri dp t q ru k d (m + 1) s := by
  have L : ∀ e, et_th t e = true → ¬ (dp e = d + 1 ∧ et_pa q e = m) := by
    intro e he ⟨a, b⟩
    have e0 : e ≠ 0 := fun w => by rw [w, hTr.2.2.1] at a; omega
    have w := hTr.2.2.2 e he e0
    rw [b] at w
    rcases hm with hm | hm
    · rw [hm] at w; exact absurd w.2.1 (by decide)
    · omega
  refine ⟨fun e => ?_, fun e => ?_⟩
  · rw [h.1 e]
    cases he : et_th t e
    · rfl
    · rw [ex_ri_nc hTr he (L e he)]
  · rw [h.2 e]
    cases he : et_th t e
    · rfl
    · rw [ex_ri_nc hTr he (L e he)]
theorem ex_ri_step (hTr : et_Tr dp t q) {k d m : Nat} {s : Int64 × Int64} {u w : Int64} (hm : et_th t m = true) (hd : dp m = d) (h : ex_ri dp t q ru k d m s)
    (hu : ∀ e, eb_t u e = (et_th t e && decide (q e = nI m))) (hw : ∀ e, et_th t e = true → e ≠ 0 → et_pa q e = m → eb_t w e = et_R dp q ru k e) : ex_ri dp t q ru k d (m + 1) (s.1 ||| (u &&& w), s.2 ||| u) := by
  have lt := et_th_lt hm
  have ch : ∀ e, et_th t e = true → (q e = nI m ↔ (dp e = d + 1 ∧ et_pa q e = m)) := by
    intro e he
    rw [et_q_iff hTr he lt]
    constructor
    · rintro ⟨a, b⟩
      have := (hTr.2.2.2 e he a).2.2
      rw [b, hd] at this
      exact ⟨this, b⟩
    · rintro ⟨a, b⟩
      exact ⟨fun z => by rw [z, hTr.2.2.1] at a; omega, b⟩
  refine ⟨fun e => ?_, fun e => ?_⟩
  · show eb_t (s.1 ||| (u &&& w)) e = _
    rw [eb_or, eb_and, hu, h.1 e]
    cases he : et_th t e
    · rfl
    · by_cases z : q e = nI m
      · have y := (ch e he).mp z
        have e0 := ((et_q_iff hTr he lt).mp z).1
        rw [decide_eq_true z, decide_eq_true y.1, y.2, decide_eq_false (Nat.lt_irrefl m), decide_eq_true (Nat.lt_succ_self m), hw e he e0 y.2, decide_eq_false (show ¬ dp e ≤ d by omega)]
        rfl
      · rw [decide_eq_false z, ex_ri_nc hTr he (fun y => z ((ch e he).mpr y)), Bool.and_false, Bool.false_and, Bool.or_false]
  · show eb_t (s.2 ||| u) e = _
    rw [eb_or, hu, h.2 e]
    cases he : et_th t e
    · rfl
    · by_cases z : q e = nI m
      · have y := (ch e he).mp z
        rw [decide_eq_true z, decide_eq_true y.1, y.2, decide_eq_true (Nat.lt_succ_self m), decide_eq_false (Nat.lt_irrefl m)]
        rfl
      · rw [decide_eq_false z, ex_ri_nc hTr he (fun y => z ((ch e he).mpr y)), Bool.and_false, Bool.or_false]
end
section
variable {f_there f_isAlias f_found : Int64} {f_serial f_tokens : Int32} {a_parents a_names a_aliases a_serials a_known a_kinds a_attributes a_values : Nat → Int32} {a_under a_below a_having a_any a_yes a_no a_open a_isTrue a_isFalse : Nat → Int64}
variable {post : Int64 → SX → Prop} {t q ru : Nat → Int32} {dp : Nat → Nat}
theorem ex_read_51 (hTr : et_Tr dp t q) (hU : er_Und t q a_under) (hR : er_Rul t ru a_yes a_no) {k d : Nat} (hk : k < 24) {J : Int64 → Int64 → Prop} {set lev : Int64}
    (hs : ∀ e, eb_t set e = (et_th t e && decide (dp e ≤ d) && et_R dp q ru k e)) (hl : ∀ e, eb_t lev e = (et_th t e && decide (dp e = d)))
    (H : ∀ set' lev', (∀ e, eb_t set' e = (et_th t e && decide (dp e ≤ d + 1) && et_R dp q ru k e)) → (∀ e, eb_t lev' e = (et_th t e && decide (dp e = d + 1))) → J set' lev') :
    wX_readable_51 post J (nI k) f_there f_isAlias f_serial f_tokens f_found a_parents a_names a_aliases a_serials a_under a_below a_having a_any a_yes a_no a_open a_known a_kinds a_attributes a_values a_isTrue a_isFalse 49 set 0 lev := by
  have ck : (nI k).toNatClampNeg = k := nI_clamp (by omega)
  have vk : vp_in (nI k) 24 := vp_in_nI hk (by decide)
  refine eb_loop0 (fun n r (s : Int64 × Int64) => wX_readable_51 post J (nI k) f_there f_isAlias f_serial f_tokens f_found a_parents a_names a_aliases a_serials a_under a_below a_having a_any a_yes a_no a_open a_known a_kinds a_attributes a_values a_isTrue a_isFalse n s.1 s.2 r) lev (ex_ri dp t q ru k d) ?_ ?_ ?_ ?_ (set, 0) (ex_ri_0 hs)
  · intro i hi; rw [hl, et_th_big hi, Bool.false_and]
  · intro n s hI
    have := ex_ri_48 hTr hI
    exact br_t rfl (H s.1 s.2 this.1 this.2)
  · intro m s hm hI hb
    refine ex_ri_skip hTr ?_ hI
    rw [hl] at hb
    cases z : et_th t m
    · exact Or.inl rfl
    · rw [z, Bool.true_and] at hb
      exact Or.inr (of_decide_eq_false hb)
  · intro n m s r hm hI hb hr hlr K
    rw [hl, Bool.and_eq_true] at hb
    have hd : dp m = d := of_decide_eq_true hb.2
    have cm : (nI m).toNatClampNeg = m := nI_clamp (by omega)
    have vm : vp_in (nI m) 48 := vp_in_nI hm (by decide)
    have sm : eb_t s.1 m = et_R dp q ru k m := by
      rw [hI.1 m, hb.1, decide_eq_true (show dp m ≤ d by omega)]; rfl
    have hw : ∀ w, (∀ e, et_th t e = true → e ≠ 0 → et_pa q e = m → eb_t w e = et_R dp q ru k e) → wX_readable_51 post J (nI k) f_there f_isAlias f_serial f_tokens f_found a_parents a_names a_aliases a_serials a_under a_below a_having a_any a_yes a_no a_open a_known a_kinds a_attributes a_values a_isTrue a_isFalse n (s.1 ||| (a_under m &&& w)) (s.2 ||| a_under m) (r &&& (r - 1)) :=
      fun w hw => K _ (ex_ri_step hTr hb.1 hd hI (hU m hm) hw)
    refine br_f (eb_ne hr) (ex_lowest hr hlr ⟨vm, nm_r (e' := s.2 ||| a_under m) (by rw [cm]) ?_⟩)
    cases z : et_R dp q ru k m
    · refine br_t (eb_shr0 (sm.trans z) (by omega)) ⟨vm, vk, nm_r (e' := s.1 ||| (a_under m &&& a_yes k)) (by rw [cm, ck]) (nm_e (hw _ (fun e he e0 hp => ?_)))⟩
      have y := hR k hk e
      rw [y.1, he, Bool.true_and, et_R_step hTr ru k he e0, hp, z]
      rcases y.2.2 he with y | y | y <;> rw [y] <;> decide
    · refine br_f (eb_shr1 (sm.trans z)) ⟨vm, vk, nm_r (e' := s.1 ||| (a_under m &&& (a_no k ^^^ (-1)))) (by rw [cm, ck]) (nm_e (hw _ (fun e he e0 hp => ?_)))⟩
      have y := hR k hk e
      have lt := et_th_lt he
      rw [eb_not _ (by omega), y.2.1, he, Bool.true_and, et_R_step hTr ru k he e0, hp, z]
      rcases y.2.2 he with y | y | y <;> rw [y] <;> decide
theorem ex_read_37 (hTr : et_Tr dp t q) (hU : er_Und t q a_under) (hR : er_Rul t ru a_yes a_no) {k : Nat} (hk : k < 24)
    (H : ∀ s, (∀ e, et_th t e = true → eb_t s e = et_R dp q ru k e) → post s (f_there, f_isAlias, f_serial, f_tokens, f_found, a_parents, a_names, a_aliases, a_serials, a_under, a_below, a_having, a_any, a_yes, a_no, vp_updL a_open k s, a_known, a_kinds, a_attributes, a_values, a_isTrue, a_isFalse)) :
    ∀ f d set lev, f + d = 49 → (∀ e, eb_t set e = (et_th t e && decide (dp e ≤ d) && et_R dp q ru k e)) → (∀ e, eb_t lev e = (et_th t e && decide (dp e = d))) → wX_readable_37 post (nI k) f_there f_isAlias f_serial f_tokens f_found a_parents a_names a_aliases a_serials a_under a_below a_having a_any a_yes a_no a_open a_known a_kinds a_attributes a_values a_isTrue a_isFalse (f + 1) set lev := by
  have ck : (nI k).toNatClampNeg = k := nI_clamp (by omega)
  have vk : vp_in (nI k) 24 := vp_in_nI hk (by decide)
  have Z : ∀ d set lev, (∀ e, eb_t set e = (et_th t e && decide (dp e ≤ d) && et_R dp q ru k e)) → (∀ e, eb_t lev e = (et_th t e && decide (dp e = d))) → lev = 0 → ∀ e, et_th t e = true → eb_t set e = et_R dp q ru k e := by
    intro d set lev hs hl z e he
    have := et_dp_lt hTr (d := d) (fun e he w => by
      have := hl e
      rw [z, eb_0, he, decide_eq_true w] at this
      cases this) e he
    rw [hs, he, decide_eq_true (show dp e ≤ d by omega)]; rfl
  have E : ∀ n d set lev, (∀ e, eb_t set e = (et_th t e && decide (dp e ≤ d) && et_R dp q ru k e)) → (∀ e, eb_t lev e = (et_th t e && decide (dp e = d))) → lev = 0 → wX_readable_37 post (nI k) f_there f_isAlias f_serial f_tokens f_found a_parents a_names a_aliases a_serials a_under a_below a_having a_any a_yes a_no a_open a_known a_kinds a_attributes a_values a_isTrue a_isFalse (n + 1) set lev := by
    intro n d set lev hs hl z
    exact br_t z ⟨vk, nm_r (e' := vp_updL a_open k set) (by rw [ck]) (H set (Z d set lev hs hl z))⟩
  intro f
  induction f with
  | zero =>
    intro d set lev hd hs hl
    refine E 0 d set lev hs hl (eb_all0 (fun e _ => ?_))
    rw [hl]
    cases he : et_th t e
    · rfl
    · have := et_dp_le hTr he
      rw [decide_eq_false (by omega)]; rfl
  | succ f ih =>
    intro d set lev hd hs hl
    by_cases z : lev = 0
    · exact E _ d set lev hs hl z
    · exact br_f z ⟨49, ex_read_51 hTr hU hR hk hs hl (fun set' lev' h1 h2 => ih (d + 1) set' lev' (by omega) h1 h2)⟩
theorem ex_readable (hTr : et_Tr dp t q) (hU : er_Und t q a_under) (hR : er_Rul t ru a_yes a_no) (hO : er_Opn dp t q ru a_known a_open) {k : Nat} (hk : k < 24)
    (H : ∀ s kn op, (∀ e, et_th t e = true → eb_t s e = et_R dp q ru k e) → er_Opn dp t q ru kn op → post s (f_there, f_isAlias, f_serial, f_tokens, f_found, a_parents, a_names, a_aliases, a_serials, a_under, a_below, a_having, a_any, a_yes, a_no, op, kn, a_kinds, a_attributes, a_values, a_isTrue, a_isFalse)) : wpX_readable post (f_there, f_isAlias, f_serial, f_tokens, f_found, a_parents, a_names, a_aliases, a_serials, a_under, a_below, a_having, a_any, a_yes, a_no, a_open, a_known, a_kinds, a_attributes, a_values, a_isTrue, a_isFalse) (nI k) := by
  unfold wpX_readable
  have ck : (nI k).toNatClampNeg = k := nI_clamp (by omega)
  have vk : vp_in (nI k) 24 := vp_in_nI hk (by decide)
  refine ⟨vk, ?_⟩
  by_cases z : a_known k = 0
  · refine br_t (by rw [ck]; exact z) ⟨vk, nm_r (e' := upd a_known k 1) (by rw [ck]; rfl) ⟨vk, nm_r (e' := (a_no k &&& 1) ^^^ 1) (by rw [ck]) ⟨50, ?_⟩⟩⟩
    refine ex_read_37 (a_known := upd a_known k 1) hTr hU hR hk (fun s hs => H s _ _ hs ?_) 49 0 _ _ rfl (fun e => ?_) (fun e => ?_)
    · intro k' hk' hn e he
      by_cases y : k' = k
      · rw [y, pk_uLs]; exact hs e he
      · rw [pk_un y] at hn
        rw [pk_uLn y]; exact hO k' hk' hn e he
    · rw [eb_xor, eb_and, eb_1, (hR k hk e).2.1]
      by_cases e0 : e = 0
      · subst e0
        rw [hTr.1, hTr.2.2.1, et_R_root hTr]
        rcases (hR k hk 0).2.2 hTr.1 with y | y | y <;> rw [y] <;> decide
      · rw [decide_eq_false e0, Bool.and_false]
        cases he : et_th t e
        · rfl
        · rw [decide_eq_false (fun y => e0 ((et_dp0 hTr he).mp (by omega)))]; rfl
    · rw [eb_1]
      by_cases e0 : e = 0
      · subst e0; rw [hTr.1, hTr.2.2.1]; rfl
      · rw [decide_eq_false e0]
        cases he : et_th t e
        · rfl
        · rw [decide_eq_false (fun y => e0 ((et_dp0 hTr he).mp y))]; rfl
  · exact br_f (by rw [ck]; exact z) ⟨vk, by rw [ck]; exact H _ _ _ (hO k hk z) hO⟩
end
end
section
/-! ===== the constructors ===== -/
section
variable {g_tokens g_serial : Int32} {b_there b_parent b_name b_alias b_serials b_sets b_rules b_kinds b_attributes b_numbers b_stack b_searched b_gone b_finds : Nat → Int32}
theorem ey_make_61 {post : SY → Prop} {e : Nat} (he : e < 48) {ru0 : Nat → Int32}
    (H : ∀ rl, (∀ k, k < 24 → rl (24 * e + k) = -1) → (∀ j k, j ≠ e → k < 24 → rl (24 * j + k) = ru0 (24 * j + k)) → post (g_tokens, g_serial, b_there, b_parent, b_name, b_alias, b_serials, b_sets, rl, b_kinds, b_attributes, b_numbers, b_stack, b_searched, b_gone, b_finds)) :
    ∀ d i rl, i + d = 24 → (∀ k, k < i → rl (24 * e + k) = -1) → (∀ j k, j ≠ e → k < 24 → rl (24 * j + k) = ru0 (24 * j + k)) → wY_make_61 post (nI e) g_tokens g_serial (d + 1) (nI i) b_there b_parent b_name b_alias b_serials b_sets rl b_kinds b_attributes b_numbers b_stack b_searched b_gone b_finds := by
  intro d
  induction d with
  | zero =>
    intro i rl hi h1 h2
    obtain rfl : i = 24 := by omega
    exact br_t (nI_le (a := 24) (b := 24) (Nat.le_refl _) (by decide)) (H rl h1 h2)
  | succ d ih =>
    intro i rl hi h1 h2
    have e1 : (24 * nI e) + nI i = nI (24 * e + i) := by rw [show (24 : Int32) = nI 24 from rfl, pk_mul, nI_add]
    refine br_f (nI_ge (b := 24) (by omega) (by decide)) ⟨by rw [e1]; exact vp_in_nI (by omega) (by decide), nm_r (e' := upd rl (24 * e + i) (-1)) (by rw [e1, nI_clamp (by omega)]) (nm_r (nI_1 i) (ih (i + 1) _ (by omega) (fun k hk => ?_) (fun j k hj hk => ?_)))⟩
    · by_cases z : k = i
      · rw [z, pk_us]
      · rw [pk_un (by omega)]; exact h1 k (by omega)
    · rw [pk_un (by omega)]; exact h2 j k hj hk
theorem ey_make_32 {post : SY → Prop} {e : Nat} (he : e < 48) {st0 : Nat → Int32}
    (H : ∀ st rl, (∀ a, a < 6 → st (6 * e + a) = 0) → (∀ j a, j ≠ e → a < 6 → st (6 * j + a) = st0 (6 * j + a)) → (∀ k, k < 24 → rl (24 * e + k) = -1) → (∀ j k, j ≠ e → k < 24 → rl (24 * j + k) = b_rules (24 * j + k)) → post (g_tokens, g_serial, b_there, b_parent, b_name, b_alias, b_serials, st, rl, b_kinds, b_attributes, b_numbers, b_stack, b_searched, b_gone, b_finds)) :
    ∀ d i st, i + d = 6 → (∀ a, a < i → st (6 * e + a) = 0) → (∀ j a, j ≠ e → a < 6 → st (6 * j + a) = st0 (6 * j + a)) → wY_make_32 post (nI e) g_tokens g_serial (d + 1) (nI i) b_there b_parent b_name b_alias b_serials st b_rules b_kinds b_attributes b_numbers b_stack b_searched b_gone b_finds := by
  intro d
  induction d with
  | zero =>
    intro i st hi h1 h2
    obtain rfl : i = 6 := by omega
    exact br_t (nI_le (a := 6) (b := 6) (Nat.le_refl _) (by decide)) ⟨25, ey_make_61 he (ru0 := b_rules) (fun rl h3 h4 => H st rl h1 h2 h3 h4) 24 0 b_rules (by omega) (fun k hk => by omega) (fun j k _ _ => rfl)⟩
  | succ d ih =>
    intro i st hi h1 h2
    have e1 : (6 * nI e) + nI i = nI (6 * e + i) := by rw [show (6 : Int32) = nI 6 from rfl, pk_mul, nI_add]
    refine br_f (nI_ge (b := 6) (by omega) (by decide)) ⟨by rw [e1]; exact vp_in_nI (by omega) (by decide), nm_r (e' := upd st (6 * e + i) 0) (by rw [e1, nI_clamp (by omega)]) (nm_r (nI_1 i) (ih (i + 1) _ (by omega) (fun k hk => ?_) (fun j k hj hk => ?_)))⟩
    · by_cases z : k = i
      · rw [z, pk_us]
      · rw [pk_un (by omega)]; exact h1 k (by omega)
    · rw [pk_un (by omega)]; exact h2 j k hj hk
theorem ey_make {post : SY → Prop} {e : Nat} (he : e < 48) {p1 p2 p3 : Int32}
    (H : ∀ st rl, (∀ a, a < 6 → st (6 * e + a) = 0) → (∀ j a, j ≠ e → a < 6 → st (6 * j + a) = b_sets (6 * j + a)) → (∀ k, k < 24 → rl (24 * e + k) = -1) → (∀ j k, j ≠ e → k < 24 → rl (24 * j + k) = b_rules (24 * j + k)) → post (g_tokens, g_serial, upd b_there e 1, upd b_parent e p1, upd b_name e p2, upd b_alias e p3, b_serials, st, rl, b_kinds, b_attributes, b_numbers, b_stack, b_searched, b_gone, b_finds)) :
    wpY_make post (g_tokens, g_serial, b_there, b_parent, b_name, b_alias, b_serials, b_sets, b_rules, b_kinds, b_attributes, b_numbers, b_stack, b_searched, b_gone, b_finds) (nI e) p1 p2 p3 := by
  unfold wpY_make
  have v : vp_in (nI e) 48 := vp_in_nI he (by decide)
  have c : (nI e).toNatClampNeg = e := nI_clamp (by omega)
  exact ⟨v, nm_r (e' := upd b_there e 1) (by rw [c]; rfl) ⟨v, nm_r (e' := upd b_parent e p1) (by rw [c]) ⟨v, nm_r (e' := upd b_name e p2) (by rw [c]) ⟨v, nm_r (e' := upd b_alias e p3) (by rw [c]) ⟨7, ey_make_32 he (st0 := b_sets) H 6 0 b_sets (by omega) (fun k hk => by omega) (fun j k _ _ => rfl)⟩⟩⟩⟩⟩
theorem ey_stamp {post : SY → Prop} {e s : Nat} (he : e < 48) (hs : g_serial = nI s) (H : post (g_tokens, nI (s + 1), b_there, b_parent, b_name, b_alias, upd b_serials e (nI (s + 1)), b_sets, b_rules, b_kinds, b_attributes, b_numbers, b_stack, b_searched, b_gone, b_finds)) : wpY_stamp post (g_tokens, g_serial, b_there, b_parent, b_name, b_alias, b_serials, b_sets, b_rules, b_kinds, b_attributes, b_numbers, b_stack, b_searched, b_gone, b_finds) (nI e) := by
  unfold wpY_stamp
  subst hs
  exact nm_r (nI_1 s) ⟨vp_in_nI he (by decide), nm_r (e' := upd b_serials e (nI (s + 1))) (by rw [nI_clamp (by omega)]) H⟩
end
theorem ex_init {post : SX → Prop} (H : ∀ pa al : Nat → Int32, (∀ i, i < 48 → pa i = -1) → post (1, 0, 0, 0, 0, pa, fun _ => 0, al, fun _ => 0, fun _ => 0, fun _ => 0, fun _ => 0, fun _ => 0, fun _ => 0, fun _ => 0, fun _ => 0, fun _ => 0, fun _ => 0, fun _ => 0, fun _ => 0, fun _ => 0, fun _ => 0)) : wpX_init post := by
  have L : ∀ d i pa al, i + d = 48 → (∀ j, j < i → pa j = -1) → wX_init_147 post 1 0 0 0 0 (d + 1) (nI i) pa (fun _ => 0) al (fun _ => 0) (fun _ => 0) (fun _ => 0) (fun _ => 0) (fun _ => 0) (fun _ => 0) (fun _ => 0) (fun _ => 0) (fun _ => 0) (fun _ => 0) (fun _ => 0) (fun _ => 0) (fun _ => 0) (fun _ => 0) := by
    intro d
    induction d with
    | zero =>
      intro i pa al hi h
      obtain rfl : i = 48 := by omega
      exact br_t (nI_le (a := 48) (b := 48) (Nat.le_refl _) (by decide)) (H pa al h)
    | succ d ih =>
      intro i pa al hi h
      have v : vp_in (nI i) 48 := vp_in_nI (by omega) (by decide)
      have c : (nI i).toNatClampNeg = i := nI_clamp (by omega)
      refine br_f (nI_ge (b := 48) (by omega) (by decide)) ⟨v, nm_r (e' := upd pa i (-1)) (by rw [c]; rfl) ⟨v, nm_r (e' := upd al i (-1)) (by rw [c]; rfl) (nm_r (nI_1 i) (ih (i + 1) _ _ (by omega) (fun j hj => ?_)))⟩⟩
      by_cases z : j = i
      · rw [z, pk_us]
      · rw [pk_un z]; exact h j (by omega)
  exact ⟨49, L 48 0 _ _ (by omega) (fun j hj => by omega)⟩
theorem er_init {pa al st rl : Nat → Int32} (hp : ∀ i, i < 48 → pa i = -1) (h1 : ∀ a, a < 6 → st (6 * 0 + a) = 0) (h3 : ∀ k, k < 24 → rl (24 * 0 + k) = -1) :
    er_Rel 0 (fun _ => 0) 1 0 0 0 0 pa (fun _ => 0) al (fun _ => 0) (fun _ => 0) (fun _ => 0) (fun _ => 0) (fun _ => 0) (fun _ => 0) (fun _ => 0) (fun _ => 0) (fun _ => 0) (fun _ => 0) (fun _ => 0) (fun _ => 0) 0 0 (upd (fun _ => 0) 0 1) (upd (fun _ => 0) 0 (-1)) (upd (fun _ => 0) 0 (-1)) (upd (fun _ => 0) 0 (-1)) (fun _ => 0) st rl (fun _ => 0) (fun _ => 0) (fun _ => 0) (fun _ => 0) := by
  have th : ∀ i, et_th (upd (fun _ => 0) 0 1) i = decide (i = 0) := by
    intro i
    by_cases z : i = 0
    · subst z; rw [et_th_us (by decide) em_10]; rfl
    · unfold et_th; rw [pk_un z, decide_eq_true rfl, decide_eq_false z, Bool.not_true, Bool.and_false]
  have th0 : ∀ i, et_th (upd (fun _ => 0) 0 1) i = true → i = 0 := fun i h => by rw [th] at h; exact of_decide_eq_true h
  have T0 : et_th (upd (fun _ => 0) 0 1) 0 = true := by rw [th]; rfl
  have Tr : et_Tr (fun _ => 0) (upd (fun _ => 0) 0 1) (upd (fun _ => 0) 0 (-1)) := ⟨T0, pk_us, rfl, fun i h h0 => absurd (th0 i h) h0⟩
  have al0 : ∀ i, et_al (upd (fun _ => 0) 0 1) (upd (fun _ => 0) 0 (-1)) i = false := by
    intro i
    unfold et_al
    cases z : et_th (upd (fun _ => 0) 0 1) i
    · rfl
    · rw [th0 i z, pk_us]; rfl
  refine ⟨fun i => ?_, Tr, fun i h => ?_, ⟨pk_us, fun i h h0 => absurd (th0 i h) h0⟩, ⟨fun i => ?_, fun i h => ?_⟩, ⟨pk_us, fun i h => ?_, fun i h h0 => absurd (th0 i h) h0⟩, fun p hp' j => ?_, fun a ha j => ?_, fun a ha v hv e => ?_, fun a ha e => ?_, fun e he a ha v hv => ?_, fun k hk e => ?_, fun k hk hn => absurd rfl hn, ?_, ?_, fun i => ?_⟩
  · rw [eb_1, th]
  · rw [th0 i h, pk_us]; exact hp 0 (by decide)
  · rw [eb_0, al0]
  · rw [al0] at h; cases h
  · rw [al0] at h; cases h
  · rw [eb_0]
    cases z : et_th (upd (fun _ => 0) 0 1) j
    · rfl
    · rw [th0 j z, decide_eq_false (fun w => ((et_q_iff Tr T0 hp').mp w).1 rfl)]; rfl
  · rw [eb_0]
    cases z : et_th (upd (fun _ => 0) 0 1) j
    · rfl
    · rw [th0 j z, et_B_root Tr]; rfl
  · rw [eb_0]
    cases z : et_th (upd (fun _ => 0) 0 1) e
    · rfl
    · rw [th0 e z, h1 a ha, b_0]; rfl
  · rw [eb_0]
    exact ⟨fun z => (by cases z), fun ⟨v, _, z⟩ => by rw [eb_0] at z; cases z⟩
  · rw [th0 e he, h1 a ha, b_0]
  · rw [eb_0]
    cases z : et_th (upd (fun _ => 0) 0 1) e
    · exact ⟨rfl, rfl, fun w => by cases w⟩
    · rw [th0 e z, h3 k hk]
      exact ⟨by decide, by decide, fun _ => Or.inl rfl⟩
  · exact ⟨0, fun _ => 0, fun _ => 0, fun _ => 0, by decide, rfl, rfl, fun i hi => by omega, fun i hi => by omega⟩
  · exact ⟨0, Nat.le_refl 0, rfl, rfl, rfl, fun i _ => ⟨0, Nat.le_refl 0, rfl⟩, fun i j hi hj _ => by rw [th0 i hi, th0 j hj]⟩
  · rw [eb_0]; unfold et_th; rw [decide_eq_true rfl, Bool.not_true, Bool.and_false]
theorem i_vc0 : wpX_init (fun u => wpY_init (fun v => i_Rel 0 u v)) := by
  refine ex_init (fun pa al hp => ?_)
  unfold wpY_init
  refine ey_make (e := 0) (by decide) (fun st rl h1 _ h3 _ => ?_)
  exact ⟨_, er_init hp h1 h3⟩
/-! ===== wipe, point, child, found ===== -/
theorem em_ser {s : Nat} (h : s ≤ 2560) : ¬ nI s = 1000000000 := by
  intro z
  have := (nI_eq (a := s) (b := 1000000000) (by omega) (by decide)).mp z
  omega
theorem er_Ser_ne {k : Nat} (hk : k + 5 ≤ 2560) {t : Nat → Int32} {f g : Int32} {a b : Nat → Int32} (h : er_Ser k t f g a b) : ¬ f = 1000000000 ∧ ¬ g = 1000000000 := by
  obtain ⟨s, h1, rfl, rfl, _⟩ := h
  exact ⟨em_ser (by omega), em_ser (by omega)⟩
/-- a new stamp at e; it may be that e is new -/
theorem er_Ser_st {k s : Nat} {t t' : Nat → Int32} {b : Nat → Int32} {e : Nat} (hs : s ≤ k) (hk : k + 5 ≤ 2560) (h1 : ∀ i, i < 48 → ∃ z, z ≤ s ∧ b i = nI z) (h2 : ∀ i j, et_th t i = true → et_th t j = true → b i = b j → i = j)
    (ht : ∀ i, i ≠ e → et_th t' i = true → et_th t i = true) : er_Ser (k + 5) t' (nI (s + 1)) (nI (s + 1)) (upd b e (nI (s + 1))) (upd b e (nI (s + 1))) := by
  have N : ∀ i, et_th t' i = true → ¬ b i = nI (s + 1) := by
    intro i hi z
    obtain ⟨y, hy, w⟩ := h1 i (et_th_lt hi)
    rw [w, nI_eq (by omega) (by omega)] at z
    omega
  refine ⟨s + 1, by omega, rfl, rfl, rfl, fun i hi => ?_, fun i j hi hj h => ?_⟩
  · by_cases z : i = e
    · rw [z, pk_us]; exact ⟨s + 1, Nat.le_refl _, rfl⟩
    · rw [pk_un z]
      obtain ⟨y, hy, w⟩ := h1 i hi
      exact ⟨y, by omega, w⟩
  · by_cases z : i = e
    · by_cases w : j = e
      · rw [z, w]
      · rw [z, pk_us, pk_un w] at h
        exact absurd h.symm (N j hj)
    · by_cases w : j = e
      · rw [w, pk_us, pk_un z] at h
        exact absurd h (N i hi)
      · rw [pk_un z, pk_un w] at h
        exact h2 i j (ht i z hi) (ht j w hj) h
/-- a byte -/
theorem em_byte {n : Nat} (h : n < 128) : vp_nar .byte (nI n).toInt8.toInt32 = nI n := by
  rw [vp_nar_byte]
  exact (by decide +kernel : ∀ n, n < 128 → (nI n).toInt8.toInt32.toInt8.toInt32 = nI n) n h
theorem i_vc_wipe {k : Nat} {u : SX} {v : SY} (I : i_Rel k u v) (hk : k + 5 ≤ 2560) : wpX_wipe (fun r u' => wpY_wipe (fun r' v' => r' = r ∧ i_Rel (k + 5) u' v') v) u := by
  refine er_el (P := fun u v => wpX_wipe (fun r u' => wpY_wipe (fun r' v' => r' = r ∧ i_Rel (k + 5) u' v') v) u) ?_ I
  intro f_there f_isAlias f_serial f_tokens f_found a_parents a_names a_aliases a_serials a_under a_below a_having a_any a_yes a_no a_open a_known a_kinds a_attributes a_values a_isTrue a_isFalse g_tokens g_serial b_there b_parent b_name b_alias b_serials b_sets b_rules b_kinds b_attributes b_numbers b_stack b_searched b_gone b_finds dp I
  obtain ⟨h1, h2, h3, h4, h5, h6, h7, h8, h9, h10, h11, h12, h13, h14, h15, h16⟩ := er_up (m := k + 5) (by omega) I
  obtain ⟨T, ka, aa, va, h, e1, e2, _⟩ := h14
  exact ⟨e2.trans e1.symm, dp, h1, h2, h3, h4, h5, h6, h7, h8, h9, h10, h11, h12, h13, ⟨0, ka, aa, va, by decide, rfl, rfl, fun i hi => by omega, fun i hi => by omega⟩, h15, h16⟩
theorem i_vc_child {k : Nat} {u : SX} {v : SY} (I : i_Rel k u v) (hk : k + 5 ≤ 2560) (v1 : Int32) (v2 : Int32) : wpX_child (fun r => wpY_child (fun r' => r' = r ∧ i_Rel (k + 5) u v) v v1 v2) u v1 v2 := by
  refine er_el (P := fun u v => wpX_child (fun r => wpY_child (fun r' => r' = r ∧ i_Rel (k + 5) u v) v v1 v2) u v1 v2) ?_ I
  intro f_there f_isAlias f_serial f_tokens f_found a_parents a_names a_aliases a_serials a_under a_below a_having a_any a_yes a_no a_open a_known a_kinds a_attributes a_values a_isTrue a_isFalse g_tokens g_serial b_there b_parent b_name b_alias b_serials b_sets b_rules b_kinds b_attributes b_numbers b_stack b_searched b_gone b_finds dp I
  have J : i_Rel (k + 5) (f_there, f_isAlias, f_serial, f_tokens, f_found, a_parents, a_names, a_aliases, a_serials, a_under, a_below, a_having, a_any, a_yes, a_no, a_open, a_known, a_kinds, a_attributes, a_values, a_isTrue, a_isFalse) (g_tokens, g_serial, b_there, b_parent, b_name, b_alias, b_serials, b_sets, b_rules, b_kinds, b_attributes, b_numbers, b_stack, b_searched, b_gone, b_finds) := ⟨dp, er_up (by omega) I⟩
  obtain ⟨hTh, hTr, hPar, hNam, hAli, hAlY, hUnd, hBel, hHav, hAny, hSet, hRul, hOpn, hTok, hSer, hFnd⟩ := I
  unfold wpX_child
  by_cases h1 : et_T b_there v1
  · obtain ⟨e, he, rfl⟩ := h1
    exact ex_isThere_t hTh he (br_f em_10 (ex_named hTr hUnd hNam (et_th_lt he) (ey_child hTr he ⟨rfl, J⟩)))
  · refine ex_isThere_f hTh h1 (br_t rfl ?_)
    unfold wpY_child
    exact ey_isThere_f h1 (br_t rfl ⟨rfl, J⟩)
theorem i_vc_point {k : Nat} {u : SX} {v : SY} (I : i_Rel k u v) (hk : k + 5 ≤ 2560) (v1 : Int32) (v2 : Int32) : wpX_point (fun r u' => wpY_point (fun r' v' => r' = r ∧ i_Rel (k + 5) u' v') v v1 v2) u v1 v2 := by
  refine er_el (P := fun u v => wpX_point (fun r u' => wpY_point (fun r' v' => r' = r ∧ i_Rel (k + 5) u' v') v v1 v2) u v1 v2) ?_ I
  intro f_there f_isAlias f_serial f_tokens f_found a_parents a_names a_aliases a_serials a_under a_below a_having a_any a_yes a_no a_open a_known a_kinds a_attributes a_values a_isTrue a_isFalse g_tokens g_serial b_there b_parent b_name b_alias b_serials b_sets b_rules b_kinds b_attributes b_numbers b_stack b_searched b_gone b_finds dp I
  have J : i_Rel (k + 5) (f_there, f_isAlias, f_serial, f_tokens, f_found, a_parents, a_names, a_aliases, a_serials, a_under, a_below, a_having, a_any, a_yes, a_no, a_open, a_known, a_kinds, a_attributes, a_values, a_isTrue, a_isFalse) (g_tokens, g_serial, b_there, b_parent, b_name, b_alias, b_serials, b_sets, b_rules, b_kinds, b_attributes, b_numbers, b_stack, b_searched, b_gone, b_finds) := ⟨dp, er_up (by omega) I⟩
  obtain ⟨hTh, hTr, hPar, hNam, hAli, hAlY, hUnd, hBel, hHav, hAny, hSet, hRul, hOpn, hTok, hSer, hFnd⟩ := I
  obtain ⟨ns, ns'⟩ := er_Ser_ne hk hSer
  by_cases h1 : et_T b_there v1
  · obtain ⟨e, he, rfl⟩ := h1
    have lt := et_th_lt he
    by_cases h2 : et_T b_there v2
    · obtain ⟨j, hj, rfl⟩ := h2
      have ltj := et_th_lt hj
      cases ha : et_al b_there b_alias e
      · unfold wpX_point
        refine ex_isThere_t hTh he (br_f em_10 (br_t (eb_shr0 ((hAli.1 e).trans ha) (by omega)) ?_))
        unfold wpY_point
        exact br_f ns' (ey_isThere_t he (br_f em_10 (ey_isThere_t hj (br_f em_10 (ey_isAlias he (by rw [ha]; exact br_t rfl ⟨rfl, J⟩))))))
      · unfold wpX_point
        obtain ⟨s, hs, e1, e2, e3, q1, q2⟩ := hSer
        have c : (nI e).toNatClampNeg = e := nI_clamp (by omega)
        have v : vp_in (nI e) 48 := vp_in_nI lt (by decide)
        refine ex_isThere_t hTh he (br_f em_10 (br_f (eb_shr1 ((hAli.1 e).trans ha)) (ex_isThere_t hTh hj (br_f em_10 (br_f ns ⟨v, nm_r (e' := upd a_aliases e (nI j)) (by rw [c, em_byte (by omega)]) (nm_r (e' := nI (s + 1)) (by rw [e1, nI_1]) ⟨v, nm_r (e' := upd a_serials e (nI (s + 1))) (by rw [c, e1, nI_1]) ?_⟩)⟩)))))
        unfold wpY_point
        refine br_f ns' (ey_isThere_t he (br_f em_10 (ey_isThere_t hj (br_f em_10 (ey_isAlias he ?_)))))
        rw [ha]
        refine br_f em_10 ⟨v, nm_r (e' := upd b_alias e (nI j)) (by rw [c]) (ey_stamp lt e2 ⟨rfl, dp, ?_⟩)⟩
        have e0 : e ≠ 0 := fun z => by rw [z, et_al_0 hAlY] at ha; cases ha
        have nj : ¬ nI j = -1 := fun z => by
          have := congrArg Int32.toInt z
          rw [nI_toInt (by omega), show (-1 : Int32).toInt = -1 from by decide] at this
          omega
        have A : ∀ i, et_al b_there (upd b_alias e (nI j)) i = et_al b_there b_alias i := by
          intro i
          by_cases z : i = e
          · subst z
            rw [ha]
            unfold et_al
            rw [he, pk_us, decide_eq_false nj]; rfl
          · unfold et_al; rw [pk_un z]
        rw [e3]
        refine ⟨hTh, hTr, hPar, hNam, ⟨fun i => by rw [A]; exact hAli.1 i, fun i hi => ?_⟩, ⟨?_, fun i hi => ?_, fun i hi h0 => ?_⟩, hUnd, hBel, hHav, hAny, hSet, hRul, hOpn, hTok, er_Ser_st hs hk q1 q2 (fun i _ h => h), hFnd⟩
        · by_cases z : i = e
          · rw [z, pk_us, pk_us]
          · rw [pk_un z, pk_un z]; rw [A] at hi; exact hAli.2 i hi
        · rw [pk_un (Ne.symm e0)]; exact hAlY.1
        · by_cases z : i = e
          · rw [z, pk_us]; exact Or.inr ⟨j, hj, rfl⟩
          · rw [pk_un z]; rw [A] at hi; exact hAlY.2.1 i hi
        · rw [pk_un]
          · exact hAlY.2.2 i hi h0
          · intro z
            have := hAlY.2.2 i hi h0
            rw [z] at this
            exact et_al_ne ha this
    · unfold wpX_point
      have Y : wpY_point (fun r' v' => r' = 0 ∧ i_Rel (k + 5) (f_there, f_isAlias, f_serial, f_tokens, f_found, a_parents, a_names, a_aliases, a_serials, a_under, a_below, a_having, a_any, a_yes, a_no, a_open, a_known, a_kinds, a_attributes, a_values, a_isTrue, a_isFalse) v') (g_tokens, g_serial, b_there, b_parent, b_name, b_alias, b_serials, b_sets, b_rules, b_kinds, b_attributes, b_numbers, b_stack, b_searched, b_gone, b_finds) (nI e) v2 := by
        unfold wpY_point
        exact br_f ns' (ey_isThere_t he (br_f em_10 (ey_isThere_f h2 (br_t rfl ⟨rfl, J⟩))))
      cases ha : et_al b_there b_alias e
      · exact ex_isThere_t hTh he (br_f em_10 (br_t (eb_shr0 ((hAli.1 e).trans ha) (by omega)) Y))
      · exact ex_isThere_t hTh he (br_f em_10 (br_f (eb_shr1 ((hAli.1 e).trans ha)) (ex_isThere_f hTh h2 (br_t rfl Y))))
  · unfold wpX_point
    refine ex_isThere_f hTh h1 (br_t rfl ?_)
    unfold wpY_point
    exact br_f ns' (ey_isThere_f h1 (br_t rfl ⟨rfl, J⟩))
end
section
/-! ===== found ===== -/
section
variable {f_there f_isAlias f_found : Int64} {f_serial f_tokens : Int32} {a_parents a_names a_aliases a_serials a_known a_kinds a_attributes a_values : Nat → Int32} {a_under a_below a_having a_any a_yes a_no a_open a_isTrue a_isFalse : Nat → Int64}
variable {post : Int32 → Prop} {fd : Nat → Int32}
theorem ex_found {w : Int32} (hF : er_Fnd f_found fd) (h : post (et_fs (fun e => et_th fd e && decide (nI (et_cn (et_th fd) e) = w)) 48 0)) : wpX_found post (f_there, f_isAlias, f_serial, f_tokens, f_found, a_parents, a_names, a_aliases, a_serials, a_under, a_below, a_having, a_any, a_yes, a_no, a_open, a_known, a_kinds, a_attributes, a_values, a_isTrue, a_isFalse) w := by
  unfold wpX_found
  by_cases z : w < 0
  · rw [et_fs_n (fun j hj => by
      have := et_cn_le (et_th fd) j
      have hz : ¬ nI (et_cn (et_th fd) j) = w := fun y => nI_pos (n := et_cn (et_th fd) j) (by omega) (by rw [y]; exact z)
      rw [decide_eq_false hz, Bool.and_false])] at h
    exact ⟨1, br_c (fun _ => h) (fun _ => br_t z h)⟩
  · obtain ⟨K, hK, rfl⟩ := nI_of z
    refine ⟨49, eb_loop0 (fun n r (s : Nat) => wX_found_7 post f_there f_isAlias f_serial f_tokens f_found a_parents a_names a_aliases a_serials a_under a_below a_having a_any a_yes a_no a_open a_known a_kinds a_attributes a_values a_isTrue a_isFalse n (nI s) r) f_found (fun m s => s + et_cn (et_th fd) m = K ∧ post (et_fs (fun e => et_th fd e && decide (nI (et_cn (et_th fd) e) = nI K)) (48 - m) m)) ?_ ?_ ?_ ?_ K ⟨rfl, h⟩⟩
    · intro i hi; rw [hF, et_th_big hi]
    · intro n s hI; exact br_t rfl hI.2
    · intro m s hm hI hb
      rw [hF] at hb
      refine ⟨by rw [et_cn_f hb]; exact hI.1, ?_⟩
      have := hI.2
      rw [show 48 - m = (48 - (m + 1)) + 1 by omega, et_fs_f (by rw [hb, Bool.false_and])] at this
      exact this
    · intro n m s r hm hI hb hr hl G
      rw [hF] at hb
      obtain ⟨h1, h2⟩ := hI
      rw [show 48 - m = (48 - (m + 1)) + 1 by omega] at h2
      refine br_f (eb_ne hr) (br_f (nI_pos (by omega)) ?_)
      cases s with
      | zero =>
        rw [et_fs_t (by rw [hb, decide_eq_true (by rw [← h1, Nat.zero_add])]; rfl)] at h2
        exact nm_e (br_t rfl (ex_lowest hr hl h2))
      | succ s =>
        rw [et_fs_f (by
          have := et_cn_le (et_th fd) m
          rw [hb, decide_eq_false (fun y => by
            have := (nI_eq (by omega) hK).mp y
            omega)]; rfl)] at h2
        exact nm_r (pk_m1 s) (br_f (nI_ne0 (by omega) (by omega)) (nm_e (G s ⟨by rw [et_cn_t hb]; omega, h2⟩)))
end
section
variable {g_tokens g_serial : Int32} {b_there b_parent b_name b_alias b_serials b_sets b_rules b_kinds b_attributes b_numbers b_stack b_searched b_gone b_finds : Nat → Int32}
variable {post : Int32 → Prop}
theorem ey_found {w : Int32} (h : post (et_fs (fun e => et_th b_finds e && decide (nI (et_cn (et_th b_finds) e) = w)) 48 0)) : wpY_found post (g_tokens, g_serial, b_there, b_parent, b_name, b_alias, b_serials, b_sets, b_rules, b_kinds, b_attributes, b_numbers, b_stack, b_searched, b_gone, b_finds) w := by
  unfold wpY_found
  have L : ∀ d i, i + d = 48 → post (et_fs (fun e => et_th b_finds e && decide (nI (et_cn (et_th b_finds) e) = w)) d i) → wY_found_4 post w g_tokens g_serial b_there b_parent b_name b_alias b_serials b_sets b_rules b_kinds b_attributes b_numbers b_stack b_searched b_gone b_finds (d + 1) (nI (et_cn (et_th b_finds) i)) (nI i) := by
    intro d
    induction d with
    | zero =>
      intro i hi h
      obtain rfl : i = 48 := by omega
      exact br_t (nI_le (a := 48) (b := 48) (Nat.le_refl _) (by decide)) h
    | succ d ih =>
      intro i hi h
      have e : (nI i).toNatClampNeg = i := nI_clamp (by omega)
      refine br_f (nI_ge (b := 48) (by omega) (by decide)) ⟨vp_in_nI (by omega) (by decide), ?_⟩
      have ih := ih (i + 1) (by omega)
      cases ht : et_th b_finds i
      · rw [et_fs_f (by rw [ht]; rfl)] at h
        rw [et_cn_f ht] at ih
        exact br_t (by rw [e]; exact et_th_f ht (by omega)) (nm_r (nI_1 i) (ih h))
      · refine br_f (by rw [e]; exact et_th_ne ht) ?_
        by_cases z : nI (et_cn (et_th b_finds) i) = w
        · rw [et_fs_t (by rw [ht, decide_eq_true z]; rfl)] at h
          exact br_t z h
        · rw [et_fs_f (by rw [ht, decide_eq_false z]; rfl)] at h
          rw [et_cn_t ht] at ih
          exact br_f z (nm_r (nI_1 _) (nm_r (nI_1 i) (ih h)))
  exact ⟨49, L 48 0 (by omega) h⟩
end
theorem i_vc_found {k : Nat} {u : SX} {v : SY} (I : i_Rel k u v) (hk : k + 5 ≤ 2560) (v1 : Int32) : wpX_found (fun r => wpY_found (fun r' => r' = r ∧ i_Rel (k + 5) u v) v v1) u v1 := by
  refine er_el (P := fun u v => wpX_found (fun r => wpY_found (fun r' => r' = r ∧ i_Rel (k + 5) u v) v v1) u v1) ?_ I
  intro f_there f_isAlias f_serial f_tokens f_found a_parents a_names a_aliases a_serials a_under a_below a_having a_any a_yes a_no a_open a_known a_kinds a_attributes a_values a_isTrue a_isFalse g_tokens g_serial b_there b_parent b_name b_alias b_serials b_sets b_rules b_kinds b_attributes b_numbers b_stack b_searched b_gone b_finds dp I
  have J : i_Rel (k + 5) (f_there, f_isAlias, f_serial, f_tokens, f_found, a_parents, a_names, a_aliases, a_serials, a_under, a_below, a_having, a_any, a_yes, a_no, a_open, a_known, a_kinds, a_attributes, a_values, a_isTrue, a_isFalse) (g_tokens, g_serial, b_there, b_parent, b_name, b_alias, b_serials, b_sets, b_rules, b_kinds, b_attributes, b_numbers, b_stack, b_searched, b_gone, b_finds) := ⟨dp, er_up (by omega) I⟩
  obtain ⟨hTh, hTr, hPar, hNam, hAli, hAlY, hUnd, hBel, hHav, hAny, hSet, hRul, hOpn, hTok, hSer, hFnd⟩ := I
  exact ex_found hFnd (ey_found ⟨rfl, J⟩)
/-! ===== look ===== -/
theorem i_vc_look {k : Nat} {u : SX} {v : SY} (I : i_Rel k u v) (hk : k + 5 ≤ 2560) (v1 : Int32) (v2 : Int32) : wpX_look (fun r => wpY_look (fun r' => r' = r ∧ i_Rel (k + 5) u v) v v1 v2) u v1 v2 := by
  refine er_el (P := fun u v => wpX_look (fun r => wpY_look (fun r' => r' = r ∧ i_Rel (k + 5) u v) v v1 v2) u v1 v2) ?_ I
  intro f_there f_isAlias f_serial f_tokens f_found a_parents a_names a_aliases a_serials a_under a_below a_having a_any a_yes a_no a_open a_known a_kinds a_attributes a_values a_isTrue a_isFalse g_tokens g_serial b_there b_parent b_name b_alias b_serials b_sets b_rules b_kinds b_attributes b_numbers b_stack b_searched b_gone b_finds dp I
  have J : i_Rel (k + 5) (f_there, f_isAlias, f_serial, f_tokens, f_found, a_parents, a_names, a_aliases, a_serials, a_under, a_below, a_having, a_any, a_yes, a_no, a_open, a_known, a_kinds, a_attributes, a_values, a_isTrue, a_isFalse) (g_tokens, g_serial, b_there, b_parent, b_name, b_alias, b_serials, b_sets, b_rules, b_kinds, b_attributes, b_numbers, b_stack, b_searched, b_gone, b_finds) := ⟨dp, er_up (by omega) I⟩
  obtain ⟨hTh, hTr, hPar, hNam, hAli, hAlY, hUnd, hBel, hHav, hAny, hSet, hRul, hOpn, hTok, hSer, hFnd⟩ := I
  unfold wpX_look wpY_look
  by_cases h1 : et_T b_there v1
  · obtain ⟨e, he, rfl⟩ := h1
    have lt := et_th_lt he
    have c : (nI e).toNatClampNeg = e := nI_clamp (by omega)
    have vi : vp_in (nI e) 48 := vp_in_nI lt (by decide)
    rcases pk_ix v2 (n := 8) (by decide) with h2 | h2 | h2
    · exact ex_isThere_t hTh he (br_f em_10 (br_t h2 (ey_isThere_t he (br_f em_10 (br_t h2 ⟨rfl, J⟩)))))
    · have g : (7 : Int32) < v2 := by
        rw [Int32.lt_iff_toInt_lt, show (7 : Int32).toInt = 7 from by decide]
        rw [Int32.le_iff_toInt_le, nI_toInt (by decide)] at h2
        omega
      have g0 := em_nn (by decide) h2
      exact ex_isThere_t hTh he (br_f em_10 (br_f g0 (br_t g (ey_isThere_t he (br_f em_10 (br_f g0 (br_t g ⟨rfl, J⟩)))))))
    · obtain ⟨j, hj, rfl⟩ := h2
      have hj' : j = 0 ∨ j = 1 ∨ j = 2 ∨ j = 3 ∨ j = 4 ∨ j = 5 ∨ j = 6 ∨ j = 7 := by omega
      rcases hj' with rfl | rfl | rfl | rfl | rfl | rfl | rfl | rfl
      · exact ex_isThere_t hTh he (br_f em_10 (br_f (by decide) (br_f (by decide) (br_t rfl ⟨vi, ey_isThere_t he (br_f em_10 (br_f (by decide) (br_f (by decide) (br_t rfl ⟨vi, by rw [c, hPar e he], J⟩))))⟩))))
      · by_cases e0 : e = 0
        · subst e0
          exact ex_isThere_t hTh he (br_f em_10 (br_f (by decide) (br_f (by decide) (br_f (by decide) (br_t rfl (br_t rfl (ey_isThere_t he (br_f em_10 (br_f (by decide) (br_f (by decide) (br_f (by decide) (br_t rfl ⟨vi, by rw [c, hNam.1], J⟩))))))))))))
        · exact ex_isThere_t hTh he (br_f em_10 (br_f (by decide) (br_f (by decide) (br_f (by decide) (br_t rfl (br_f (nI_ne0 (by omega) (by omega)) ⟨vi, ey_isThere_t he (br_f em_10 (br_f (by decide) (br_f (by decide) (br_f (by decide) (br_t rfl ⟨vi, by rw [c, hNam.2 e he e0], J⟩)))))⟩))))))
      · cases ha : et_al b_there b_alias e
        · exact ex_isThere_t hTh he (br_f em_10 (br_f (by decide) (br_f (by decide) (br_f (by decide) (br_f (by decide) (br_t rfl (br_t (eb_shr0 ((hAli.1 e).trans ha) (by omega)) (ey_isThere_t he (br_f em_10 (br_f (by decide) (br_f (by decide) (br_f (by decide) (br_f (by decide) (br_t rfl ⟨vi, by rw [c, et_al_f he ha], J⟩))))))))))))))
        · exact ex_isThere_t hTh he (br_f em_10 (br_f (by decide) (br_f (by decide) (br_f (by decide) (br_f (by decide) (br_t rfl (br_f (eb_shr1 ((hAli.1 e).trans ha)) ⟨vi, ey_isThere_t he (br_f em_10 (br_f (by decide) (br_f (by decide) (br_f (by decide) (br_f (by decide) (br_t rfl ⟨vi, by rw [c, hAli.2 e ha], J⟩))))))⟩)))))))
      · refine ex_isThere_t hTh he (br_f em_10 (br_f (by decide) (br_f (by decide) (br_f (by decide) (br_f (by decide) (br_f (by decide) (br_t rfl ⟨vi, ex_size (fun i hi => ?_) (ey_isThere_t he (br_f em_10 (br_f (by decide) (br_f (by decide) (br_f (by decide) (br_f (by decide) (br_f (by decide) (br_t rfl (ey_under ⟨?_, J⟩)))))))))⟩)))))))
        · rw [c, hUnd e lt, et_th_big hi, Bool.false_and]
        · rw [c]
          exact congrArg nI (et_cn_c 48 (fun i hi => (hUnd e lt i).symm))
      · refine ex_isThere_t hTh he (br_f em_10 (br_f (by decide) (br_f (by decide) (br_f (by decide) (br_f (by decide) (br_f (by decide) (br_f (by decide) (br_t rfl ⟨vi, ex_size (fun i hi => ?_) (ey_isThere_t he (br_f em_10 (br_f (by decide) (br_f (by decide) (br_f (by decide) (br_f (by decide) (br_f (by decide) (br_f (by decide) (br_t rfl (ey_below hTr lt ⟨?_, J⟩))))))))))⟩))))))))
        · rw [c, hBel e lt, et_th_big hi, Bool.false_and]
        · rw [c]
          exact congrArg nI (et_cn_c 48 (fun i hi => (hBel e lt i).symm))
      · exact ex_isThere_t hTh he (br_f em_10 (br_f (by decide) (br_f (by decide) (br_f (by decide) (br_f (by decide) (br_f (by decide) (br_f (by decide) (br_f (by decide) (br_t rfl (ex_depth hTr hPar he (ey_isThere_t he (br_f em_10 (br_f (by decide) (br_f (by decide) (br_f (by decide) (br_f (by decide) (br_f (by decide) (br_f (by decide) (br_f (by decide) (br_t rfl (ey_depth hTr he ⟨rfl, J⟩)))))))))))))))))))))
      · obtain ⟨s, hs, e1, e2, e3, q1, q2⟩ := hSer
        exact ex_isThere_t hTh he (br_f em_10 (br_f (by decide) (br_f (by decide) (br_f (by decide) (br_f (by decide) (br_f (by decide) (br_f (by decide) (br_f (by decide) (br_f (by decide) (br_t rfl ⟨vi, ey_isThere_t he (br_f em_10 (br_f (by decide) (br_f (by decide) (br_f (by decide) (br_f (by decide) (br_f (by decide) (br_f (by decide) (br_f (by decide) (br_f (by decide) (br_t rfl ⟨vi, by rw [e3], J⟩))))))))))⟩))))))))))
      · exact ex_isThere_t hTh he (br_f em_10 (br_f (by decide) (br_f (by decide) (br_f (by decide) (br_f (by decide) (br_f (by decide) (br_f (by decide) (br_f (by decide) (br_f (by decide) (br_f (by decide) (br_t rfl (ex_leads hAli hAlY (Or.inr ⟨e, he, rfl⟩) (ey_isThere_t he (br_f em_10 (br_f (by decide) (br_f (by decide) (br_f (by decide) (br_f (by decide) (br_f (by decide) (br_f (by decide) (br_f (by decide) (br_f (by decide) (br_f (by decide) (br_t rfl (ey_leadsTo hAlY (Or.inr ⟨e, he, rfl⟩) ⟨rfl, J⟩)))))))))))))))))))))))))
  · exact ex_isThere_f hTh h1 (br_t rfl (ey_isThere_f h1 (br_t rfl ⟨rfl, J⟩)))
/-! ===== state ===== -/
def et_mx (dp : Nat → Nat) (t : Nat → Int32) : Nat → Nat
  | 0 => 0
  | n + 1 => if et_th t n = true ∧ et_mx dp t n < dp n then dp n else et_mx dp t n
theorem et_mx_le {dp : Nat → Nat} {t q : Nat → Int32} (h : et_Tr dp t q) : ∀ n, et_mx dp t n ≤ 48 := by
  intro n
  induction n with
  | zero => exact Nat.zero_le _
  | succ n ih =>
    show (if et_th t n = true ∧ et_mx dp t n < dp n then dp n else et_mx dp t n) ≤ 48
    by_cases z : et_th t n = true ∧ et_mx dp t n < dp n
    · rw [if_pos z]; exact et_dp_le h z.1
    · rw [if_neg z]; exact ih
section
variable {g_tokens g_serial : Int32} {b_there b_parent b_name b_alias b_serials b_sets b_rules b_kinds b_attributes b_numbers b_stack b_searched b_gone b_finds : Nat → Int32}
variable {post : Int32 → Prop} {dp : Nat → Nat}
theorem ey_state {w : Int32} (hTr : et_Tr dp b_there b_parent)
    (h : post (if w = 0 then g_serial else if w = 1 then nI (et_cn (et_th b_there) 48) else if w = 2 then nI (et_cn (fun e => et_th b_there e && decide (b_alias e = -2)) 48) else if w = 3 then nI (et_mx dp b_there 48) else -1)) : wpY_state post (g_tokens, g_serial, b_there, b_parent, b_name, b_alias, b_serials, b_sets, b_rules, b_kinds, b_attributes, b_numbers, b_stack, b_searched, b_gone, b_finds) w := by
  unfold wpY_state
  have L : ∀ d i, i + d = 48 → wY_state_10 post w g_tokens g_serial b_there b_parent b_name b_alias b_serials b_sets b_rules b_kinds b_attributes b_numbers b_stack b_searched b_gone b_finds (d + 1) (nI (et_cn (et_th b_there) i)) (nI (et_cn (fun e => et_th b_there e && decide (b_alias e = -2)) i)) (nI (et_mx dp b_there i)) (nI i) := by
    intro d
    induction d with
    | zero =>
      intro i hi
      obtain rfl : i = 48 := by omega
      refine br_t (nI_le (a := 48) (b := 48) (Nat.le_refl _) (by decide)) ?_
      refine br_c (fun z => ?_) (fun z => br_c (fun z1 => ?_) (fun z1 => br_c (fun z2 => ?_) (fun z2 => br_c (fun z3 => ?_) (fun z3 => ?_))))
      · rw [if_pos z] at h; exact h
      · rw [if_neg z, if_pos z1] at h; exact h
      · rw [if_neg z, if_neg z1, if_pos z2] at h; exact h
      · rw [if_neg z, if_neg z1, if_neg z2, if_pos z3] at h; exact h
      · rw [if_neg z, if_neg z1, if_neg z2, if_neg z3] at h; exact h
    | succ d ih =>
      intro i hi
      have ih := ih (i + 1) (by omega)
      have e : (nI i).toNatClampNeg = i := nI_clamp (by omega)
      have v : vp_in (nI i) 48 := vp_in_nI (by omega) (by decide)
      refine br_f (nI_ge (b := 48) (by omega) (by decide)) ⟨v, ?_⟩
      cases ht : et_th b_there i
      · rw [et_cn_f ht, et_cn_f (by rw [ht]; rfl), show et_mx dp b_there (i + 1) = et_mx dp b_there i from if_neg (fun z => by rw [ht] at z; exact absurd z.1 (by decide))] at ih
        exact br_t (by rw [e]; exact et_th_f ht (by omega)) (nm_r (nI_1 i) ih)
      · rw [et_cn_t ht] at ih
        have m1 := et_mx_le hTr i
        have m2 := et_dp_le hTr ht
        have D : ∀ x, wY_state_10 post w g_tokens g_serial b_there b_parent b_name b_alias b_serials b_sets b_rules b_kinds b_attributes b_numbers b_stack b_searched b_gone b_finds (d + 1) (nI (et_cn (et_th b_there) i + 1)) x (nI (et_mx dp b_there (i + 1))) (nI (i + 1)) → wY_state_48 post (wY_state_10 post w g_tokens g_serial b_there b_parent b_name b_alias b_serials b_sets b_rules b_kinds b_attributes b_numbers b_stack b_searched b_gone b_finds (d + 1)) w (nI (et_cn (et_th b_there) i + 1)) x (nI (et_mx dp b_there i)) (nI i) g_tokens g_serial b_there b_parent b_name b_alias b_serials b_sets b_rules b_kinds b_attributes b_numbers b_stack b_searched b_gone b_finds := by
          intro x hx
          refine ey_depth hTr ht ?_
          by_cases z : et_mx dp b_there i < dp i
          · rw [show et_mx dp b_there (i + 1) = dp i from if_pos ⟨ht, z⟩] at hx
            exact br_f (nI_ge z (by omega)) (ey_depth hTr ht (nm_r (nI_1 i) hx))
          · rw [show et_mx dp b_there (i + 1) = et_mx dp b_there i from if_neg (fun y => z y.2)] at hx
            exact br_t (nI_le (by omega) (by omega)) (nm_r (nI_1 i) hx)
        refine br_f (by rw [e]; exact et_th_ne ht) (nm_r (nI_1 _) ⟨v, ?_⟩)
        by_cases z : b_alias i = -2
        · rw [et_cn_t (by rw [ht, decide_eq_true z]; rfl)] at ih
          exact br_t (by rw [e]; exact z) (nm_r (nI_1 _) (D _ ih))
        · rw [et_cn_f (by rw [ht, decide_eq_false z]; rfl)] at ih
          exact br_f (by rw [e]; exact z) (D _ ih)
  exact ⟨49, L 48 0 (by omega)⟩
end
section
variable {f_there f_isAlias f_found : Int64} {f_serial f_tokens : Int32} {a_parents a_names a_aliases a_serials a_known a_kinds a_attributes a_values : Nat → Int32} {a_under a_below a_having a_any a_yes a_no a_open a_isTrue a_isFalse : Nat → Int64}
variable {post : Int32 → Prop} {t q l : Nat → Int32} {dp : Nat → Nat}
theorem ex_state_47 (hA : er_Ali t l f_isAlias a_aliases) (h : post (nI (et_cn (fun e => et_th t e && decide (l e = -2)) 48))) :
    ∀ d i, i + d = 48 → wX_state_47 post f_there f_isAlias f_serial f_tokens f_found a_parents a_names a_aliases a_serials a_under a_below a_having a_any a_yes a_no a_open a_known a_kinds a_attributes a_values a_isTrue a_isFalse (d + 1) (nI (et_cn (fun e => et_th t e && decide (l e = -2)) i)) (nI i) := by
  intro d
  induction d with
  | zero =>
    intro i hi
    obtain rfl : i = 48 := by omega
    exact br_t (nI_le (a := 48) (b := 48) (Nat.le_refl _) (by decide)) h
  | succ d ih =>
    intro i hi
    have ih := ih (i + 1) (by omega)
    have e : (nI i).toNatClampNeg = i := nI_clamp (by omega)
    refine br_f (nI_ge (b := 48) (by omega) (by decide)) ?_
    cases ha : et_al t l i
    · have : (et_th t i && decide (l i = -2)) = false := by
        cases ht : et_th t i
        · rfl
        · rw [et_al_f ht ha]; rfl
      rw [et_cn_f this] at ih
      exact br_t (eb_shr0 ((hA.1 i).trans ha) (by omega)) (nm_r (nI_1 i) ih)
    · refine br_f (eb_shr1 ((hA.1 i).trans ha)) ⟨vp_in_nI (by omega) (by decide), ?_⟩
      by_cases z : l i = -2
      · rw [et_cn_t (by rw [et_al_th ha, decide_eq_true z]; rfl)] at ih
        exact br_t (by rw [e, hA.2 i ha]; exact z) (nm_r (nI_1 _) (nm_r (nI_1 i) ih))
      · rw [et_cn_f (by rw [decide_eq_false z, Bool.and_false])] at ih
        exact br_f (by rw [e, hA.2 i ha]; exact z) (nm_r (nI_1 i) ih)
theorem ex_state_90 (hTr : et_Tr dp t q) (hT : er_Th f_there t) (hP : er_Par t q a_parents) (h : post (nI (et_mx dp t 48))) :
    ∀ d i, i + d = 48 → wX_state_90 post f_there f_isAlias f_serial f_tokens f_found a_parents a_names a_aliases a_serials a_under a_below a_having a_any a_yes a_no a_open a_known a_kinds a_attributes a_values a_isTrue a_isFalse (d + 1) (nI (et_mx dp t i)) (nI i) := by
  intro d
  induction d with
  | zero =>
    intro i hi
    obtain rfl : i = 48 := by omega
    exact br_t (nI_le (a := 48) (b := 48) (Nat.le_refl _) (by decide)) h
  | succ d ih =>
    intro i hi
    have ih := ih (i + 1) (by omega)
    have m1 := et_mx_le hTr i
    refine br_f (nI_ge (b := 48) (by omega) (by decide)) ?_
    cases ht : et_th t i
    · rw [show et_mx dp t (i + 1) = et_mx dp t i from if_neg (fun z => by rw [ht] at z; exact absurd z.1 (by decide))] at ih
      refine ex_isThere_f hT (fun ⟨j, hj, z⟩ => ?_) (br_t rfl (br_t (nI_le (a := 0) (by omega) (by omega)) (nm_r (nI_1 i) ih)))
      have := et_th_lt hj
      rw [nI_eq (by omega) (by omega)] at z
      rw [z, hj] at ht
      cases ht
    · have m2 := et_dp_le hTr ht
      refine ex_isThere_t hT ht (br_f em_10 (ex_depth hTr hP ht ?_))
      by_cases z : et_mx dp t i < dp i
      · rw [show et_mx dp t (i + 1) = dp i from if_pos ⟨ht, z⟩] at ih
        exact br_f (nI_ge z (by omega)) (nm_r (nI_1 i) ih)
      · rw [show et_mx dp t (i + 1) = et_mx dp t i from if_neg (fun y => z y.2)] at ih
        exact br_t (nI_le (by omega) (by omega)) (nm_r (nI_1 i) ih)
end
theorem i_vc_state {k : Nat} {u : SX} {v : SY} (I : i_Rel k u v) (hk : k + 5 ≤ 2560) (v1 : Int32) : wpX_state (fun r => wpY_state (fun r' => r' = r ∧ i_Rel (k + 5) u v) v v1) u v1 := by
  refine er_el (P := fun u v => wpX_state (fun r => wpY_state (fun r' => r' = r ∧ i_Rel (k + 5) u v) v v1) u v1) ?_ I
  intro f_there f_isAlias f_serial f_tokens f_found a_parents a_names a_aliases a_serials a_under a_below a_having a_any a_yes a_no a_open a_known a_kinds a_attributes a_values a_isTrue a_isFalse g_tokens g_serial b_there b_parent b_name b_alias b_serials b_sets b_rules b_kinds b_attributes b_numbers b_stack b_searched b_gone b_finds dp I
  have J : i_Rel (k + 5) (f_there, f_isAlias, f_serial, f_tokens, f_found, a_parents, a_names, a_aliases, a_serials, a_under, a_below, a_having, a_any, a_yes, a_no, a_open, a_known, a_kinds, a_attributes, a_values, a_isTrue, a_isFalse) (g_tokens, g_serial, b_there, b_parent, b_name, b_alias, b_serials, b_sets, b_rules, b_kinds, b_attributes, b_numbers, b_stack, b_searched, b_gone, b_finds) := ⟨dp, er_up (by omega) I⟩
  obtain ⟨hTh, hTr, hPar, hNam, hAli, hAlY, hUnd, hBel, hHav, hAny, hSet, hRul, hOpn, hTok, hSer, hFnd⟩ := I
  unfold wpX_state
  rcases pk_ix v1 (n := 4) (by decide) with h2 | h2 | h2
  · refine br_t h2 (ey_state hTr ⟨?_, J⟩)
    rw [if_neg, if_neg, if_neg, if_neg]
    · intro z; rw [z] at h2; exact absurd h2 (by decide)
    · intro z; rw [z] at h2; exact absurd h2 (by decide)
    · intro z; rw [z] at h2; exact absurd h2 (by decide)
    · intro z; rw [z] at h2; exact absurd h2 (by decide)
  · have g : (3 : Int32) < v1 := by
      rw [Int32.lt_iff_toInt_lt, show (3 : Int32).toInt = 3 from by decide]
      rw [Int32.le_iff_toInt_le, nI_toInt (by decide)] at h2
      omega
    have g0 := em_nn (by decide) h2
    refine br_f g0 (br_t g (ey_state hTr ⟨?_, J⟩))
    rw [if_neg, if_neg, if_neg, if_neg]
    · intro z; rw [z] at g; exact absurd g (by decide)
    · intro z; rw [z] at g; exact absurd g (by decide)
    · intro z; rw [z] at g; exact absurd g (by decide)
    · intro z; rw [z] at g; exact absurd g (by decide)
  · obtain ⟨j, hj, rfl⟩ := h2
    have hj' : j = 0 ∨ j = 1 ∨ j = 2 ∨ j = 3 := by omega
    rcases hj' with rfl | rfl | rfl | rfl
    · obtain ⟨s, hs, e1, e2, e3, q1, q2⟩ := hSer
      refine br_f (by decide) (br_f (by decide) (br_t rfl (ey_state hTr ⟨?_, J⟩)))
      rw [if_pos (show nI 0 = 0 from rfl), e1, e2]
    · refine br_f (by decide) (br_f (by decide) (br_f (by decide) (br_t rfl (ex_size (fun i hi => by rw [hTh, et_th_big hi]) (ey_state hTr ⟨?_, J⟩)))))
      rw [if_neg (by decide), if_pos (show nI 1 = 1 from rfl)]
      exact congrArg nI (et_cn_c 48 (fun i _ => (hTh i).symm))
    · refine br_f (by decide) (br_f (by decide) (br_f (by decide) (br_f (by decide) (br_t rfl ⟨49, ex_state_47 hAli ?_ 48 0 (by omega)⟩))))
      refine ey_state hTr ⟨?_, J⟩
      rw [if_neg (by decide), if_neg (by decide), if_pos (show nI 2 = 2 from rfl)]
    · refine br_f (by decide) (br_f (by decide) (br_f (by decide) (br_f (by decide) (br_f (by decide) (br_t rfl ⟨49, ex_state_90 hTr hTh hPar ?_ 48 0 (by omega)⟩)))))
      refine ey_state hTr ⟨?_, J⟩
      rw [if_neg (by decide), if_neg (by decide), if_neg (by decide), if_pos (show nI 3 = 3 from rfl)]
end
section
/-! ===== values ===== -/
theorem em_bt1 : ∀ n, n < 32 → bt 1 n = decide (n = 0) := by decide +kernel
theorem em_shc (c : Bool) {i : Nat} (hi : i < 32) (b : Nat) : bt (((if c = true then (1 : Int64) else 0).toInt32) <<< (nI i &&& 31)) b = (c && decide (b = i)) := by
  rcases Nat.lt_or_ge b 32 with h | h
  · rw [b_shl i hi _ h]
    cases c
    · rw [if_neg (by decide), show (0 : Int64).toInt32 = 0 from by decide, b_0, Bool.and_false, Bool.false_and]
    · rw [if_pos rfl, show (1 : Int64).toInt32 = 1 from by decide, em_bt1 _ (by omega), Bool.true_and]
      by_cases z : b = i
      · subst z; rw [decide_eq_true (Nat.le_refl b), Nat.sub_self, decide_eq_true (rfl : b = b)]; rfl
      · rw [decide_eq_false z]
        by_cases y : i ≤ b
        · rw [decide_eq_false (show ¬ b - i = 0 by omega), Bool.and_false]
        · rw [decide_eq_false y, Bool.false_and]
  · rw [b_big h, decide_eq_false (by omega), Bool.and_false]
section
variable {f_there f_isAlias f_found : Int64} {f_serial f_tokens : Int32} {a_parents a_names a_aliases a_serials a_known a_kinds a_attributes a_values : Nat → Int32} {a_under a_below a_having a_any a_yes a_no a_open a_isTrue a_isFalse : Nat → Int64}
variable {post : Int32 → SX → Prop}
theorem ex_values_59 {e a : Nat} {S : Int32} (he : e < 48) (ha : a < 6) (hS : ∀ v, v < 16 → eb_t (a_having (16 * a + v)) e = bt S v) (hz : ∀ v, 16 ≤ v → bt S v = false) (h : post S (f_there, f_isAlias, f_serial, f_tokens, f_found, a_parents, a_names, a_aliases, a_serials, a_under, a_below, a_having, a_any, a_yes, a_no, a_open, a_known, a_kinds, a_attributes, a_values, a_isTrue, a_isFalse)) :
    ∀ d i x6, i + d = 16 → (∀ b, bt x6 b = (decide (b < i) && bt S b)) → wX_values_59 post (nI e) (nI a) f_there f_isAlias f_serial f_tokens f_found a_parents a_names a_aliases a_serials a_under a_below a_having a_any a_yes a_no a_open a_known a_kinds a_attributes a_values a_isTrue a_isFalse (d + 1) x6 (nI i) := by
  intro d
  induction d with
  | zero =>
    intro i x6 hi hx
    obtain rfl : i = 16 := by omega
    have : x6 = S := b_ext (fun b hb => by
      rw [hx]
      rcases Nat.lt_or_ge b 16 with y | y
      · rw [decide_eq_true y, Bool.true_and]
      · rw [hz b y, Bool.and_false])
    rw [this]
    exact br_t (nI_le (a := 16) (b := 16) (Nat.le_refl _) (by decide)) h
  | succ d ih =>
    intro i x6 hi hx
    have e1 : (16 * nI a) + nI i = nI (16 * a + i) := by rw [show (16 : Int32) = nI 16 from rfl, pk_mul, nI_add]
    refine br_f (nI_ge (b := 16) (by omega) (by decide)) ⟨by rw [e1]; exact vp_in_nI (by omega) (by decide), nm_e (nm_r (nI_1 i) (ih (i + 1) _ (by omega) (fun b => ?_)))⟩
    rw [e1, nI_clamp (by omega), eb_shv (by omega), b_or, em_shc _ (by omega), hx, hS i (by omega)]
    rcases Nat.lt_trichotomy b i with y | y | y
    · rw [decide_eq_true y, decide_eq_false (show ¬ b = i by omega), decide_eq_true (show b < i + 1 by omega), Bool.and_false, Bool.or_false]
    · subst y; rw [decide_eq_false (Nat.lt_irrefl b), decide_eq_true (rfl : b = b), decide_eq_true (Nat.lt_succ_self b), Bool.and_true, Bool.false_and, Bool.false_or, Bool.true_and]
    · rw [decide_eq_false (show ¬ b < i by omega), decide_eq_false (show ¬ b = i by omega), decide_eq_false (show ¬ b < i + 1 by omega), Bool.and_false, Bool.false_and]; rfl
end
theorem i_vc_values {k : Nat} {u : SX} {v : SY} (I : i_Rel k u v) (hk : k + 5 ≤ 2560) (v1 : Int32) (v2 : Int32) (v3 : Int32) : wpX_values (fun r u' => wpY_values (fun r' => r' = r ∧ i_Rel (k + 5) u' v) v v1 v2 v3) u v1 v2 v3 := by
  refine er_el (P := fun u v => wpX_values (fun r u' => wpY_values (fun r' => r' = r ∧ i_Rel (k + 5) u' v) v v1 v2 v3) u v1 v2 v3) ?_ I
  intro f_there f_isAlias f_serial f_tokens f_found a_parents a_names a_aliases a_serials a_under a_below a_having a_any a_yes a_no a_open a_known a_kinds a_attributes a_values a_isTrue a_isFalse g_tokens g_serial b_there b_parent b_name b_alias b_serials b_sets b_rules b_kinds b_attributes b_numbers b_stack b_searched b_gone b_finds dp I
  have J : i_Rel (k + 5) (f_there, f_isAlias, f_serial, f_tokens, f_found, a_parents, a_names, a_aliases, a_serials, a_under, a_below, a_having, a_any, a_yes, a_no, a_open, a_known, a_kinds, a_attributes, a_values, a_isTrue, a_isFalse) (g_tokens, g_serial, b_there, b_parent, b_name, b_alias, b_serials, b_sets, b_rules, b_kinds, b_attributes, b_numbers, b_stack, b_searched, b_gone, b_finds) := ⟨dp, er_up (by omega) I⟩
  obtain ⟨hTh, hTr, hPar, hNam, hAli, hAlY, hUnd, hBel, hHav, hAny, hSet, hRul, hOpn, hTok, hSer, hFnd⟩ := I
  unfold wpX_values wpY_values
  by_cases h1 : et_T b_there v1
  · obtain ⟨e, he, rfl⟩ := h1
    have lt := et_th_lt he
    by_cases h2 : em_I 6 v2
    · obtain ⟨a, ha, rfl⟩ := h2
      by_cases h3 : em_I 4 v3
      · obtain ⟨g, hg, rfl⟩ := h3
        have e1 : (6 * nI g) + nI a = nI (6 * g + a) := by rw [show (6 : Int32) = nI 6 from rfl, pk_mul, nI_add]
        have e2 : (6 * nI e) + nI a = nI (6 * e + a) := by rw [show (6 : Int32) = nI 6 from rfl, pk_mul, nI_add]
        refine ex_isThere_t hTh he (br_f em_10 (ex_in_t (N := 6) ha (by decide) (br_f em_10 (ex_in_t (N := 4) hg (by decide) (br_f em_10 ?_)))))
        rw [e1]
        refine ex_readable hTr hUnd hRul hOpn (by omega) (fun s kn op hs hO => ?_)
        have J' : i_Rel (k + 5) (f_there, f_isAlias, f_serial, f_tokens, f_found, a_parents, a_names, a_aliases, a_serials, a_under, a_below, a_having, a_any, a_yes, a_no, op, kn, a_kinds, a_attributes, a_values, a_isTrue, a_isFalse) (g_tokens, g_serial, b_there, b_parent, b_name, b_alias, b_serials, b_sets, b_rules, b_kinds, b_attributes, b_numbers, b_stack, b_searched, b_gone, b_finds) := ⟨dp, hTh, hTr, hPar, hNam, hAli, hAlY, hUnd, hBel, hHav, hAny, hSet, hRul, hO, hTok, er_Ser_up (by omega) hSer, hFnd⟩
        cases hR : et_R dp b_parent b_rules (6 * g + a) e
        · refine br_t (eb_shr0 ((hs e he).trans hR) (by omega)) (ey_isThere_t he (br_f em_10 (ey_in_t (N := 6) ha (by decide) (br_f em_10 (ey_in_t (N := 4) hg (by decide) (br_f em_10 (ey_mayRead hTr he hg ha ?_)))))))
          rw [hR]
          exact br_t rfl ⟨rfl, J'⟩
        · refine br_f (eb_shr1 ((hs e he).trans hR)) ⟨17, ex_values_59 (S := b_sets (6 * e + a)) lt ha (fun v hv => ?_) (hSet e he a ha) ?_ 16 0 0 (by omega) (fun b => by rw [b_0, decide_eq_false (Nat.not_lt_zero b), Bool.false_and])⟩
          · rw [hHav a ha v hv, he, Bool.true_and]
          · refine ey_isThere_t he (br_f em_10 (ey_in_t (N := 6) ha (by decide) (br_f em_10 (ey_in_t (N := 4) hg (by decide) (br_f em_10 (ey_mayRead hTr he hg ha ?_))))))
            rw [hR]
            exact br_f em_10 ⟨by rw [e2]; exact vp_in_nI (by omega) (by decide), by rw [e2, nI_clamp (by omega)], J'⟩
      · exact ex_isThere_t hTh he (br_f em_10 (ex_in_t (N := 6) ha (by decide) (br_f em_10 (ex_in_f (N := 4) (by decide) h3 (br_t rfl (ey_isThere_t he (br_f em_10 (ey_in_t (N := 6) ha (by decide) (br_f em_10 (ey_in_f (N := 4) (by decide) h3 (br_t rfl ⟨rfl, J⟩)))))))))))
    · exact ex_isThere_t hTh he (br_f em_10 (ex_in_f (N := 6) (by decide) h2 (br_t rfl (ey_isThere_t he (br_f em_10 (ey_in_f (N := 6) (by decide) h2 (br_t rfl ⟨rfl, J⟩)))))))
  · exact ex_isThere_f hTh h1 (br_t rfl (ey_isThere_f h1 (br_t rfl ⟨rfl, J⟩)))
/-! ===== rule ===== -/
def ex_rs (old new : Nat → Int64) (κ e : Nat) (c : Bool) : Prop := (∀ j, j ≠ κ → new j = old j) ∧ ∀ i, eb_t (new κ) i = if i = e then c else eb_t (old κ) i
theorem ex_rs_clr (old : Nat → Int64) (κ : Nat) {e : Nat} {b : Int64} (he : e < 48) (hb : ∀ i, eb_t b i = decide (i = e)) : ex_rs old (vp_updL old κ (old κ &&& (b ^^^ (-1)))) κ e false := by
  refine ⟨fun j hj => pk_uLn hj, fun i => ?_⟩
  rw [pk_uLs, eb_and]
  rcases Nat.lt_or_ge i 64 with h | h
  · rw [eb_not _ h, hb]
    by_cases z : i = e
    · rw [if_pos z, decide_eq_true z, Bool.not_true, Bool.and_false]
    · rw [if_neg z, decide_eq_false z, Bool.not_false, Bool.and_true]
  · rw [eb_big h, Bool.false_and, if_neg (by omega)]
theorem ex_rs_set {old mid : Nat → Int64} {κ e : Nat} {b : Int64} {c : Bool} (hb : ∀ i, eb_t b i = decide (i = e)) (h : ex_rs old mid κ e c) : ex_rs old (vp_updL mid κ (mid κ ||| b)) κ e true := by
  refine ⟨fun j hj => (pk_uLn hj).trans (h.1 j hj), fun i => ?_⟩
  rw [pk_uLs, eb_or, hb, h.2]
  by_cases z : i = e
  · rw [if_pos z, if_pos z, decide_eq_true z, Bool.or_true]
  · rw [if_neg z, if_neg z, decide_eq_false z, Bool.or_false]
def em_sy (x : Int32) : Prop := x = -1 ∨ x = 0 ∨ x = 1
theorem em_sy_of {x : Int32} (h1 : ¬ x < -1) (h2 : x ≤ 1) : em_sy x := by
  rw [Int32.lt_iff_toInt_lt, show (-1 : Int32).toInt = -1 from by decide] at h1
  rw [Int32.le_iff_toInt_le, show (1 : Int32).toInt = 1 from by decide] at h2
  have : x.toInt = -1 ∨ x.toInt = 0 ∨ x.toInt = 1 := by omega
  rcases this with z | z | z
  · exact Or.inl (Int32.toInt_inj.mp (z.trans (by decide)))
  · exact Or.inr (Or.inl (Int32.toInt_inj.mp (z.trans (by decide))))
  · exact Or.inr (Or.inr (Int32.toInt_inj.mp (z.trans (by decide))))
theorem em_sy_I {x : Int32} : em_I 3 (x + 1) ↔ em_sy x := by
  constructor
  · rintro ⟨j, hj, z⟩
    have e : x = nI j - 1 := by rw [← z, Int32.add_sub_cancel]
    have : j = 0 ∨ j = 1 ∨ j = 2 := by omega
    rcases this with rfl | rfl | rfl
    · exact Or.inl (e.trans (by decide))
    · exact Or.inr (Or.inl (e.trans (by decide)))
    · exact Or.inr (Or.inr (e.trans (by decide)))
  · rintro (rfl | rfl | rfl)
    · exact ⟨0, by decide, by decide⟩
    · exact ⟨1, by decide, by decide⟩
    · exact ⟨2, by decide, by decide⟩
section
variable {f_there f_isAlias f_found : Int64} {f_serial f_tokens : Int32} {a_parents a_names a_aliases a_serials a_known a_kinds a_attributes a_values : Nat → Int32} {a_under a_below a_having a_any a_yes a_no a_open a_isTrue a_isFalse : Nat → Int64}
variable {post : Int32 → SX → Prop} {t : Nat → Int32}
theorem ex_rule_ok (hT : er_Th f_there t) {e g a : Nat} {says : Int32} (he : et_th t e = true) (hg : g < 4) (ha : a < 6) (hs : em_sy says)
    (H : ∀ ye nn, ex_rs a_yes ye (6 * g + a) e (decide (says = 1)) → ex_rs a_no nn (6 * g + a) e (decide (says = 0)) → post 1 (f_there, f_isAlias, f_serial, f_tokens, f_found, a_parents, a_names, a_aliases, a_serials, a_under, a_below, a_having, a_any, ye, nn, a_open, upd a_known (6 * g + a) 0, a_kinds, a_attributes, a_values, a_isTrue, a_isFalse)) : wpX_rule post (f_there, f_isAlias, f_serial, f_tokens, f_found, a_parents, a_names, a_aliases, a_serials, a_under, a_below, a_having, a_any, a_yes, a_no, a_open, a_known, a_kinds, a_attributes, a_values, a_isTrue, a_isFalse) (nI e) (nI g) (nI a) says := by
  unfold wpX_rule
  have lt := et_th_lt he
  have e1 : (6 * nI g) + nI a = nI (6 * g + a) := by rw [show (6 : Int32) = nI 6 from rfl, pk_mul, nI_add]
  have ck : (nI (6 * g + a)).toNatClampNeg = 6 * g + a := nI_clamp (by omega)
  have vk : vp_in (nI (6 * g + a)) 24 := vp_in_nI (by omega) (by decide)
  have e64 : e < 64 := by omega
  refine ex_isThere_t hT he (br_f em_10 (ex_in_t (N := 4) hg (by decide) (br_f em_10 (ex_in_t (N := 6) ha (by decide) (br_f em_10 ?_)))))
  rcases hs with rfl | rfl | rfl
  · refine br_f (by decide) (br_t (by decide) (nm_r e1 ⟨vk, ex_bit e64 (fun b hb => ⟨vk, nm_r (e' := vp_updL a_yes (6 * g + a) (a_yes (6 * g + a) &&& (b ^^^ (-1)))) (by rw [ck]) ⟨vk, ex_bit e64 (fun b' hb' => ⟨vk, nm_r (e' := vp_updL a_no (6 * g + a) (a_no (6 * g + a) &&& (b' ^^^ (-1)))) (by rw [ck]) (br_f (by decide) (br_f (by decide) ⟨vk, nm_r (e' := upd a_known (6 * g + a) 0) (by rw [ck]; rfl) ?_⟩))⟩)⟩⟩)⟩))
    exact H _ _ (ex_rs_clr _ _ lt hb) (ex_rs_clr _ _ lt hb')
  · refine br_f (by decide) (br_t (by decide) (nm_r e1 ⟨vk, ex_bit e64 (fun b hb => ⟨vk, nm_r (e' := vp_updL a_yes (6 * g + a) (a_yes (6 * g + a) &&& (b ^^^ (-1)))) (by rw [ck]) ⟨vk, ex_bit e64 (fun b' hb' => ⟨vk, nm_r (e' := vp_updL a_no (6 * g + a) (a_no (6 * g + a) &&& (b' ^^^ (-1)))) (by rw [ck]) (br_f (by decide) (br_t rfl ⟨vk, ex_bit e64 (fun d hd => ⟨vk, nm_e ⟨vk, nm_r (e' := upd a_known (6 * g + a) 0) (by rw [ck]; rfl) ?_⟩⟩)⟩))⟩)⟩⟩)⟩))
    rw [ck]
    exact H _ _ (ex_rs_clr _ _ lt hb) (ex_rs_set hd (ex_rs_clr _ _ lt hb'))
  · refine br_f (by decide) (br_t (by decide) (nm_r e1 ⟨vk, ex_bit e64 (fun b hb => ⟨vk, nm_r (e' := vp_updL a_yes (6 * g + a) (a_yes (6 * g + a) &&& (b ^^^ (-1)))) (by rw [ck]) ⟨vk, ex_bit e64 (fun b' hb' => ⟨vk, nm_r (e' := vp_updL a_no (6 * g + a) (a_no (6 * g + a) &&& (b' ^^^ (-1)))) (by rw [ck]) (br_t rfl ⟨vk, ex_bit e64 (fun d hd => ⟨vk, nm_e (br_f (by decide) ⟨vk, nm_r (e' := upd a_known (6 * g + a) 0) (by rw [ck]; rfl) ?_⟩)⟩)⟩)⟩)⟩⟩)⟩))
    rw [ck]
    exact H _ _ (ex_rs_set hd (ex_rs_clr _ _ lt hb)) (ex_rs_clr _ _ lt hb')
end
theorem et_R_cg {dp : Nat → Nat} {t q ru ru' : Nat → Int32} {k : Nat} (h : et_Tr dp t q) (hr : ∀ j, et_th t j = true → ru' (24 * j + k) = ru (24 * j + k)) : ∀ e, et_th t e = true → et_R dp q ru' k e = et_R dp q ru k e := by
  apply et_ind h
  · rw [et_R_root h, et_R_root h, hr 0 h.1]
  · intro j hj h0 hp ih
    rw [et_R_step h ru' k hj h0, et_R_step h ru k hj h0, ih, hr j hj]
theorem em_if1 {c : Prop} [Decidable c] {p : Bool} {r x s : Int32} (h : c → p = true) : (if c then decide (s = x) else (p && decide (r = x))) = (p && decide ((if c then s else r) = x)) := by
  by_cases z : c
  · rw [if_pos z, if_pos z, h z]; rfl
  · rw [if_neg z, if_neg z]
theorem er_Rul_set {t rules : Nat → Int32} {yes no ye nn : Nat → Int64} {κ e : Nat} {s : Int32} (h : er_Rul t rules yes no) (hκ : κ < 24) (he : et_th t e = true) (hs : em_sy s)
    (hy : ex_rs yes ye κ e (decide (s = 1))) (hn : ex_rs no nn κ e (decide (s = 0))) : er_Rul t (upd rules (24 * e + κ) s) ye nn := by
  intro k hk j
  obtain ⟨a, b, c⟩ := h k hk j
  by_cases z : k = κ
  · subst z
    have ue : upd rules (24 * e + k) s (24 * j + k) = if j = e then s else rules (24 * j + k) := by
      by_cases w : j = e
      · rw [w, pk_us, if_pos rfl]
      · rw [pk_un (by omega), if_neg w]
    rw [ue, hy.2, hn.2, a, b]
    refine ⟨em_if1 (fun w => by rw [w]; exact he), em_if1 (fun w => by rw [w]; exact he), fun w => ?_⟩
    by_cases y : j = e
    · rw [if_pos y]; exact hs
    · rw [if_neg y]; exact c w
  · rw [pk_un (by omega), hy.1 k z, hn.1 k z]
    exact ⟨a, b, c⟩
theorem i_vc_rule {k : Nat} {u : SX} {v : SY} (I : i_Rel k u v) (hk : k + 5 ≤ 2560) (v1 : Int32) (v2 : Int32) (v3 : Int32) (v4 : Int32) : wpX_rule (fun r u' => wpY_rule (fun r' v' => r' = r ∧ i_Rel (k + 5) u' v') v v1 v2 v3 v4) u v1 v2 v3 v4 := by
  refine er_el (P := fun u v => wpX_rule (fun r u' => wpY_rule (fun r' v' => r' = r ∧ i_Rel (k + 5) u' v') v v1 v2 v3 v4) u v1 v2 v3 v4) ?_ I
  intro f_there f_isAlias f_serial f_tokens f_found a_parents a_names a_aliases a_serials a_under a_below a_having a_any a_yes a_no a_open a_known a_kinds a_attributes a_values a_isTrue a_isFalse g_tokens g_serial b_there b_parent b_name b_alias b_serials b_sets b_rules b_kinds b_attributes b_numbers b_stack b_searched b_gone b_finds dp I
  have J : i_Rel (k + 5) (f_there, f_isAlias, f_serial, f_tokens, f_found, a_parents, a_names, a_aliases, a_serials, a_under, a_below, a_having, a_any, a_yes, a_no, a_open, a_known, a_kinds, a_attributes, a_values, a_isTrue, a_isFalse) (g_tokens, g_serial, b_there, b_parent, b_name, b_alias, b_serials, b_sets, b_rules, b_kinds, b_attributes, b_numbers, b_stack, b_searched, b_gone, b_finds) := ⟨dp, er_up (by omega) I⟩
  obtain ⟨hTh, hTr, hPar, hNam, hAli, hAlY, hUnd, hBel, hHav, hAny, hSet, hRul, hOpn, hTok, hSer, hFnd⟩ := I
  by_cases h1 : et_T b_there v1
  · obtain ⟨e, he, rfl⟩ := h1
    have lt := et_th_lt he
    by_cases h2 : em_I 4 v2
    · obtain ⟨g, hg, rfl⟩ := h2
      by_cases h3 : em_I 6 v3
      · obtain ⟨a, ha, rfl⟩ := h3
        by_cases h4 : em_sy v4
        · refine ex_rule_ok hTh he hg ha h4 (fun ye nn hy hn => ?_)
          unfold wpY_rule
          obtain ⟨j, hj, ej⟩ := em_sy_I.mpr h4
          have I3 : ∀ {P : Int32 → Prop}, P 1 → wpY_in P (v4 + 1) 3 := fun {P} h => by rw [ej]; exact ey_in_t (N := 3) hj (by decide) h
          refine ey_isThere_t he (br_f em_10 (ey_in_t (N := 4) hg (by decide) (br_f em_10 (ey_in_t (N := 6) ha (by decide) (br_f em_10 (I3 (br_f em_10 ⟨by rw [em_ix]; exact vp_in_nI (by omega) (by decide), nm_r (e' := upd b_rules (24 * e + (6 * g + a)) v4) (by rw [em_ix, nI_clamp (by omega)]) ⟨rfl, dp, ?_⟩⟩)))))))
          refine ⟨hTh, hTr, hPar, hNam, hAli, hAlY, hUnd, hBel, hHav, hAny, hSet, er_Rul_set hRul (by omega) he h4 hy hn, fun k' hk' hn' => ?_, hTok, er_Ser_up (by omega) hSer, hFnd⟩
          by_cases z : k' = 6 * g + a
          · rw [z, pk_us] at hn'; exact absurd rfl hn'
          · rw [pk_un z] at hn'
            intro i hi
            rw [hOpn k' hk' hn' i hi]
            exact (et_R_cg hTr (fun j _ => pk_un (by omega)) i hi).symm
        · have Y : wpY_rule (fun r' v' => r' = 0 ∧ i_Rel (k + 5) (f_there, f_isAlias, f_serial, f_tokens, f_found, a_parents, a_names, a_aliases, a_serials, a_under, a_below, a_having, a_any, a_yes, a_no, a_open, a_known, a_kinds, a_attributes, a_values, a_isTrue, a_isFalse) v') (g_tokens, g_serial, b_there, b_parent, b_name, b_alias, b_serials, b_sets, b_rules, b_kinds, b_attributes, b_numbers, b_stack, b_searched, b_gone, b_finds) (nI e) (nI g) (nI a) v4 := by
            unfold wpY_rule
            exact ey_isThere_t he (br_f em_10 (ey_in_t (N := 4) hg (by decide) (br_f em_10 (ey_in_t (N := 6) ha (by decide) (br_f em_10 (ey_in_f (N := 3) (by decide) (fun z => h4 (em_sy_I.mp z)) (br_t rfl ⟨rfl, J⟩)))))))
          unfold wpX_rule
          exact ex_isThere_t hTh he (br_f em_10 (ex_in_t (N := 4) hg (by decide) (br_f em_10 (ex_in_t (N := 6) ha (by decide) (br_f em_10 (br_c (fun _ => Y) (fun z => br_f (fun z' => h4 (em_sy_of z z')) Y)))))))
      · unfold wpX_rule wpY_rule
        exact ex_isThere_t hTh he (br_f em_10 (ex_in_t (N := 4) hg (by decide) (br_f em_10 (ex_in_f (N := 6) (by decide) h3 (br_t rfl (ey_isThere_t he (br_f em_10 (ey_in_t (N := 4) hg (by decide) (br_f em_10 (ey_in_f (N := 6) (by decide) h3 (br_t rfl ⟨rfl, J⟩)))))))))))
    · unfold wpX_rule wpY_rule
      exact ex_isThere_t hTh he (br_f em_10 (ex_in_f (N := 4) (by decide) h2 (br_t rfl (ey_isThere_t he (br_f em_10 (ey_in_f (N := 4) (by decide) h2 (br_t rfl ⟨rfl, J⟩)))))))
  · unfold wpX_rule wpY_rule
    exact ex_isThere_f hTh h1 (br_t rfl (ey_isThere_f h1 (br_t rfl ⟨rfl, J⟩)))
/-! ===== token ===== -/
theorem et_dpu_s {f : Nat → Nat} {e d : Nat} : et_dpu f e d e = d := if_pos rfl
theorem et_dpu_n {f : Nat → Nat} {e d i : Nat} (h : i ≠ e) : et_dpu f e d i = f i := if_neg h
theorem er_TokA_push {T : Nat} {ka aa va : Nat → Nat} {K A V : Nat → Int32} {κ α ν : Nat} {x2 x3 : Int32} (h : er_TokA T ka aa va K A V) (hκ : κ < 7) (h2 : κ < 4 → α < 6 ∧ x2 = nI α) (h3 : 0 < κ → κ < 4 → ν < 16 ∧ x3 = nI ν) :
    er_TokA (T + 1) (et_dpu ka T κ) (et_dpu aa T α) (et_dpu va T ν) (upd K T (nI κ)) (upd A T x2) (upd V T x3) := by
  intro i hi
  by_cases z : i = T
  · subst z
    rw [et_dpu_s, et_dpu_s, et_dpu_s, pk_us, pk_us, pk_us]
    exact ⟨hκ, rfl, h2, h3⟩
  · rw [et_dpu_n z, et_dpu_n z, et_dpu_n z, pk_un z, pk_un z, pk_un z]
    exact h i (by omega)
section
variable {f_there f_isAlias f_found : Int64} {f_serial f_tokens : Int32} {a_parents a_names a_aliases a_serials a_known a_kinds a_attributes a_values : Nat → Int32} {a_under a_below a_having a_any a_yes a_no a_open a_isTrue a_isFalse : Nat → Int64}
variable {g_tokens g_serial : Int32} {b_there b_parent b_name b_alias b_serials b_sets b_rules b_kinds b_attributes b_numbers b_stack b_searched b_gone b_finds : Nat → Int32}
variable {dp : Nat → Nat}
theorem tk_41 {k : Nat} (I : er_Rel k dp f_there f_isAlias f_serial f_tokens f_found a_parents a_names a_aliases a_serials a_under a_below a_having a_any a_yes a_no a_open a_known a_kinds a_attributes a_values g_tokens g_serial b_there b_parent b_name b_alias b_serials b_sets b_rules b_kinds b_attributes b_numbers b_finds) {κ α ν : Nat} {x2 x3 : Int32} (hκ : κ < 7) (h2 : κ < 4 → α < 6 ∧ x2 = nI α) (h3 : 0 < κ → κ < 4 → ν < 16 ∧ x3 = nI ν) {Q : Int32 → SX → Prop}
    (H : ∀ r u', wY_token_42 (fun r' v' => r' = r ∧ i_Rel (k + 5) u' v') (nI κ) x2 x3 g_tokens g_serial b_there b_parent b_name b_alias b_serials b_sets b_rules b_kinds b_attributes b_numbers b_stack b_searched b_gone b_finds → Q r u') : wX_token_41 Q (nI κ) x2 x3 f_there f_isAlias f_serial f_tokens f_found a_parents a_names a_aliases a_serials a_under a_below a_having a_any a_yes a_no a_open a_known a_kinds a_attributes a_values a_isTrue a_isFalse := by
  have J : i_Rel (k + 5) (f_there, f_isAlias, f_serial, f_tokens, f_found, a_parents, a_names, a_aliases, a_serials, a_under, a_below, a_having, a_any, a_yes, a_no, a_open, a_known, a_kinds, a_attributes, a_values, a_isTrue, a_isFalse) (g_tokens, g_serial, b_there, b_parent, b_name, b_alias, b_serials, b_sets, b_rules, b_kinds, b_attributes, b_numbers, b_stack, b_searched, b_gone, b_finds) := ⟨dp, er_up (by omega) I⟩
  obtain ⟨hTh, hTr, hPar, hNam, hAli, hAlY, hUnd, hBel, hHav, hAny, hSet, hRul, hOpn, hTok, hSer, hFnd⟩ := I
  obtain ⟨T, ka, aa, va, hT, rfl, rfl, hA, hB⟩ := hTok
  by_cases hT' : T = 12
  · subst hT'
    exact br_t rfl (H _ _ (br_t rfl ⟨rfl, J⟩))
  · have n12 : ¬ nI T = 12 := fun z => hT' ((nI_eq (b := 12) (by omega) (by decide)).mp z)
    have cT : (nI T).toNatClampNeg = T := nI_clamp (by omega)
    have vT : vp_in (nI T) 12 := vp_in_nI (by omega) (by decide)
    have F : ∀ α' ν' y2 y3, (κ < 4 → α' = α ∧ y2 = nI α) → (0 < κ → κ < 4 → ν' = ν ∧ y3 = nI ν) → Q (nI (T + 1)) (f_there, f_isAlias, f_serial, nI (T + 1), f_found, a_parents, a_names, a_aliases, a_serials, a_under, a_below, a_having, a_any, a_yes, a_no, a_open, a_known, upd a_kinds T (nI κ), upd a_attributes T y2, upd a_values T y3, a_isTrue, a_isFalse) := by
      intro α' ν' y2 y3 g2 g3
      refine H _ _ (br_f n12 ⟨vT, nm_r (e' := upd b_kinds T (nI κ)) (by rw [cT]) ⟨vT, nm_r (e' := upd b_attributes T x2) (by rw [cT]) ⟨vT, nm_r (e' := upd b_numbers T x3) (by rw [cT]) (nm_r (nI_1 T) ⟨rfl, dp, ?_⟩)⟩⟩⟩)
      refine ⟨hTh, hTr, hPar, hNam, hAli, hAlY, hUnd, hBel, hHav, hAny, hSet, hRul, hOpn, ⟨T + 1, et_dpu ka T κ, et_dpu aa T α, et_dpu va T ν, by omega, rfl, rfl, ?_, ?_⟩, er_Ser_up (by omega) hSer, hFnd⟩
      · exact er_TokA_push hA hκ (fun z => ⟨(h2 z).1, (g2 z).2⟩) (fun z z' => ⟨(h3 z z').1, (g3 z z').2⟩)
      · exact er_TokA_push hB hκ h2 h3
    have b0 : vp_nar .byte ((0 : Int32).toInt8.toInt32) = 0 := by rw [vp_nar_byte]; decide
    refine br_f n12 ⟨vT, nm_r (e' := upd a_kinds T (nI κ)) (by rw [cT, em_byte (by omega)]) ?_⟩
    have G : ∀ z0 y2, vp_nar .byte z0.toInt8.toInt32 = y2 → (κ < 4 → y2 = nI α) → wX_token_81 Q (nI κ) x3 z0 (nI T) f_there f_isAlias f_serial (nI T) f_found a_parents a_names a_aliases a_serials a_under a_below a_having a_any a_yes a_no a_open a_known (upd a_kinds T (nI κ)) a_attributes a_values a_isTrue a_isFalse := by
      intro z0 y2 hz hy
      refine ⟨vT, nm_r (e' := upd a_attributes T y2) (by rw [cT, hz]) (nm_r (nI_1 T) ?_)⟩
      by_cases k0 : κ = 0
      · subst k0
        exact br_t (by decide) ⟨vT, nm_r (e' := upd a_values T 0) (by rw [cT, b0]) (F α 0 _ _ (fun z => ⟨rfl, hy z⟩) (fun z => by omega))⟩
      · refine br_f (nI_nle (by omega) (by omega)) ?_
        by_cases k4 : 4 ≤ κ
        · exact br_t (nI_le (a := 4) k4 (by omega)) ⟨vT, nm_r (e' := upd a_values T 0) (by rw [cT, b0]) (F α 0 _ _ (fun z => by omega) (fun z => by omega))⟩
        · obtain ⟨y1, y3⟩ := h3 (by omega) (by omega)
          exact br_f (nI_ge (b := 4) (by omega) (by decide)) ⟨vT, nm_r (e' := upd a_values T (nI ν)) (by rw [cT, y3, em_byte (by omega)]) (F α ν _ _ (fun z => ⟨rfl, hy z⟩) (fun _ _ => ⟨rfl, rfl⟩))⟩
    by_cases k4 : 4 ≤ κ
    · exact br_t (nI_le (a := 4) k4 (by omega)) (G 0 0 b0 (fun z => by omega))
    · obtain ⟨y1, y2⟩ := h2 (by omega)
      exact br_f (nI_ge (b := 4) (by omega) (by decide)) (G x2 (nI α) (by rw [y2, em_byte (by omega)]) (fun _ => rfl))
end
theorem i_vc_token {k : Nat} {u : SX} {v : SY} (I : i_Rel k u v) (hk : k + 5 ≤ 2560) (v1 : Int32) (v2 : Int32) (v3 : Int32) : wpX_token (fun r u' => wpY_token (fun r' v' => r' = r ∧ i_Rel (k + 5) u' v') v v1 v2 v3) u v1 v2 v3 := by
  refine er_el (P := fun u v => wpX_token (fun r u' => wpY_token (fun r' v' => r' = r ∧ i_Rel (k + 5) u' v') v v1 v2 v3) u v1 v2 v3) ?_ I
  intro f_there f_isAlias f_serial f_tokens f_found a_parents a_names a_aliases a_serials a_under a_below a_having a_any a_yes a_no a_open a_known a_kinds a_attributes a_values a_isTrue a_isFalse g_tokens g_serial b_there b_parent b_name b_alias b_serials b_sets b_rules b_kinds b_attributes b_numbers b_stack b_searched b_gone b_finds dp I
  have J : i_Rel (k + 5) (f_there, f_isAlias, f_serial, f_tokens, f_found, a_parents, a_names, a_aliases, a_serials, a_under, a_below, a_having, a_any, a_yes, a_no, a_open, a_known, a_kinds, a_attributes, a_values, a_isTrue, a_isFalse) (g_tokens, g_serial, b_there, b_parent, b_name, b_alias, b_serials, b_sets, b_rules, b_kinds, b_attributes, b_numbers, b_stack, b_searched, b_gone, b_finds) := ⟨dp, er_up (by omega) I⟩
  unfold wpX_token wpY_token
  by_cases h1 : em_I 7 v1
  · obtain ⟨κ, hκ, rfl⟩ := h1
    by_cases k4 : 4 ≤ κ
    · have n0 : ¬ em_I 3 (nI κ - 1) := by
        rintro ⟨j, hj, z⟩
        rw [show (1 : Int32) = nI 1 from rfl, pk_sub (by omega), nI_eq (by omega) (by omega)] at z
        omega
      exact ex_in_t (N := 7) hκ (by decide) (br_f em_10 (br_t (nI_le (a := 4) k4 (by omega)) (br_f (nI_nle (by omega) (by omega)) (br_t (nI_le (a := 4) k4 (by omega)) (tk_41 I (α := 0) (ν := 0) hκ (fun z => by omega) (fun _ z => by omega) (fun r u' hY => ey_in_t (N := 7) hκ (by decide) (br_f em_10 (br_t (nI_le (a := 4) k4 (by omega)) (ey_in_f (N := 3) (by decide) n0 (br_t rfl hY))))))))))
    · have g4 : ¬ (4 : Int32) ≤ nI κ := nI_ge (b := 4) (by omega) (by decide)
      by_cases h2 : em_I 6 v2
      · obtain ⟨α, hα, rfl⟩ := h2
        by_cases k0 : κ = 0
        · subst k0
          have n0 : ¬ em_I 3 (nI 0 - 1) := by
            rintro ⟨j, hj, z⟩
            have := congrArg Int32.toInt z
            rw [nI_toInt (by omega), show (nI 0 - 1).toInt = -1 from by decide] at this
            omega
          exact ex_in_t (N := 7) hκ (by decide) (br_f em_10 (br_f g4 (ex_in_t (N := 6) hα (by decide) (br_f em_10 (br_t (by decide) (tk_41 I (ν := 0) hκ (fun _ => ⟨hα, rfl⟩) (fun z => by omega) (fun r u' hY => ey_in_t (N := 7) hκ (by decide) (br_f em_10 (br_f g4 (ey_in_t (N := 6) hα (by decide) (br_f em_10 (ey_in_f (N := 3) (by decide) n0 (br_t rfl hY)))))))))))))
        · have I3 : ∀ {P : Int32 → Prop}, P 1 → wpY_in P (nI κ - 1) 3 := fun {P} h => by
            rw [show (1 : Int32) = nI 1 from rfl, pk_sub (by omega)]
            exact ey_in_t (N := 3) (by omega) (by decide) h
          by_cases h3 : em_I 16 v3
          · obtain ⟨ν, hν, rfl⟩ := h3
            exact ex_in_t (N := 7) hκ (by decide) (br_f em_10 (br_f g4 (ex_in_t (N := 6) hα (by decide) (br_f em_10 (br_f (nI_nle (by omega) (by omega)) (br_f g4 (ex_in_t (N := 16) hν (by decide) (br_f em_10 (tk_41 I hκ (fun _ => ⟨hα, rfl⟩) (fun _ _ => ⟨hν, rfl⟩) (fun r u' hY => ey_in_t (N := 7) hκ (by decide) (br_f em_10 (br_f g4 (ey_in_t (N := 6) hα (by decide) (br_f em_10 (I3 (br_f em_10 (ey_in_t (N := 16) hν (by decide) (br_f em_10 hY))))))))))))))))))
          · exact ex_in_t (N := 7) hκ (by decide) (br_f em_10 (br_f g4 (ex_in_t (N := 6) hα (by decide) (br_f em_10 (br_f (nI_nle (by omega) (by omega)) (br_f g4 (ex_in_f (N := 16) (by decide) h3 (br_t rfl (ey_in_t (N := 7) hκ (by decide) (br_f em_10 (br_f g4 (ey_in_t (N := 6) hα (by decide) (br_f em_10 (I3 (br_f em_10 (ey_in_f (N := 16) (by decide) h3 (br_t rfl ⟨rfl, J⟩)))))))))))))))))
      · exact ex_in_t (N := 7) hκ (by decide) (br_f em_10 (br_f g4 (ex_in_f (N := 6) (by decide) h2 (br_t rfl (ey_in_t (N := 7) hκ (by decide) (br_f em_10 (br_f g4 (ey_in_f (N := 6) (by decide) h2 (br_t rfl ⟨rfl, J⟩)))))))))
  · exact ex_in_f (N := 7) (by decide) h1 (br_t rfl (ey_in_f (N := 7) (by decide) h1 (br_t rfl ⟨rfl, J⟩)))
end
section
/-! ===== put ===== -/
theorem em_sh1 {v : Nat} (hv : v < 32) (b : Nat) : bt ((1 : Int32) <<< (nI v &&& 31)) b = decide (b = v) := by
  have := em_shc true hv b
  rw [if_pos rfl, show (1 : Int64).toInt32 = 1 from by decide, Bool.true_and] at this
  exact this
theorem em_bit1 {v : Nat} (hv : v < 32) (x : Int32) : ((x >>> (nI v &&& 31)) &&& 1) = em_b (bt x v) := by
  apply b_ext
  intro i hi
  rw [b_and, b_sshr v hv x hi, em_bt1 i hi]
  by_cases h0 : i = 0
  · subst h0
    rw [if_pos (by omega), Nat.add_zero, decide_eq_true rfl, Bool.and_true]
    cases bt x v
    · exact (b_0 0).symm
    · exact (em_bt1 0 (by decide)).symm
  · rw [decide_eq_false h0, Bool.and_false]
    cases bt x v
    · exact (b_0 i).symm
    · exact ((em_bt1 i hi).trans (decide_eq_false h0)).symm
section
variable {f_there f_isAlias f_found : Int64} {f_serial f_tokens : Int32} {a_parents a_names a_aliases a_serials a_known a_kinds a_attributes a_values : Nat → Int32} {a_under a_below a_having a_any a_yes a_no a_open a_isTrue a_isFalse : Nat → Int64}
variable {post : Int32 → SX → Prop}
theorem ex_put_113 {e a s : Nat} (he : e < 48) (ha : a < 6) (hs : f_serial = nI s)
    (H : ∀ an, (∀ i, eb_t an i = true ↔ ∃ v, v < 16 ∧ eb_t (a_having (16 * a + v)) i = true) → post 1 (f_there, f_isAlias, nI (s + 1), f_tokens, f_found, a_parents, a_names, a_aliases, upd a_serials e (nI (s + 1)), a_under, a_below, a_having, vp_updL a_any a an, a_yes, a_no, a_open, a_known, a_kinds, a_attributes, a_values, a_isTrue, a_isFalse)) :
    ∀ d i x7, i + d = 16 → (∀ j, eb_t x7 j = true ↔ ∃ v, v < i ∧ eb_t (a_having (16 * a + v)) j = true) → wX_put_113 post (nI e) (nI a) f_there f_isAlias f_serial f_tokens f_found a_parents a_names a_aliases a_serials a_under a_below a_having a_any a_yes a_no a_open a_known a_kinds a_attributes a_values a_isTrue a_isFalse (d + 1) x7 (nI (16 * a + i)) := by
  have e1 : (16 * nI a) + 16 = nI (16 * a + 16) := by rw [show (16 : Int32) = nI 16 from rfl, pk_mul, nI_add]
  intro d
  induction d with
  | zero =>
    intro i x7 hi hx
    obtain rfl : i = 16 := by omega
    exact br_t (by rw [e1]; exact nI_le (Nat.le_refl _) (by omega)) ⟨vp_in_nI ha (by decide), nm_r (e' := vp_updL a_any a x7) (by rw [nI_clamp (by omega)]) (nm_r (e' := nI (s + 1)) (by rw [hs, nI_1]) ⟨vp_in_nI he (by decide), nm_r (e' := upd a_serials e (nI (s + 1))) (by rw [nI_clamp (by omega), hs, nI_1]) (H x7 hx)⟩)⟩
  | succ d ih =>
    intro i x7 hi hx
    refine br_f (by rw [e1]; exact nI_ge (by omega) (by omega)) ⟨vp_in_nI (by omega) (by decide), nm_r (e' := x7 ||| a_having (16 * a + i)) (by rw [nI_clamp (by omega)]) (nm_r (nI_1 _) (ih (i + 1) _ (by omega) (fun j => ?_)))⟩
    rw [eb_or, Bool.or_eq_true, hx j]
    constructor
    · rintro (⟨v, y, z⟩ | z)
      · exact ⟨v, by omega, z⟩
      · exact ⟨i, by omega, z⟩
    · rintro ⟨v, y, z⟩
      by_cases w : v = i
      · subst w; exact Or.inr z
      · exact Or.inl ⟨v, by omega, z⟩
end
theorem er_Hav_put {t sets : Nat → Int32} {hav : Nat → Int64} (h : er_Hav t sets hav) {e a v : Nat} {b : Int64} (he : et_th t e = true) (ha : a < 6) (hv : v < 16) (hb : ∀ i, eb_t b i = decide (i = e)) :
    er_Hav t (upd sets (6 * e + a) (sets (6 * e + a) ^^^ ((1 : Int32) <<< (nI v &&& 31)))) (vp_updL hav (16 * a + v) (hav (16 * a + v) ^^^ b)) := by
  intro a' ha' v' hv' e'
  by_cases z : a' = a
  · subst z
    by_cases y : e' = e
    · subst y
      rw [pk_us, b_xor, em_sh1 (by omega)]
      by_cases w : v' = v
      · subst w
        rw [pk_uLs, eb_xor, h a' ha' v' hv', hb, he, decide_eq_true rfl, decide_eq_true rfl]; rfl
      · rw [pk_uLn (by omega), h a' ha' v' hv', decide_eq_false w, Bool.xor_false]
    · rw [pk_un (by omega)]
      by_cases w : v' = v
      · subst w
        rw [pk_uLs, eb_xor, h a' ha' v' hv', hb, decide_eq_false y, Bool.xor_false]
      · rw [pk_uLn (by omega), h a' ha' v' hv']
  · rw [pk_un (by omega), pk_uLn (by omega), h a' ha' v' hv']
theorem i_vc_put {k : Nat} {u : SX} {v : SY} (I : i_Rel k u v) (hk : k + 5 ≤ 2560) (v1 : Int32) (v2 : Int32) (v3 : Int32) (v4 : Int32) : wpX_put (fun r u' => wpY_put (fun r' v' => r' = r ∧ i_Rel (k + 5) u' v') v v1 v2 v3 (lw_bz v4)) u v1 v2 v3 (lw_bz v4) := by
  refine er_el (P := fun u v => wpX_put (fun r u' => wpY_put (fun r' v' => r' = r ∧ i_Rel (k + 5) u' v') v v1 v2 v3 (lw_bz v4)) u v1 v2 v3 (lw_bz v4)) ?_ I
  intro f_there f_isAlias f_serial f_tokens f_found a_parents a_names a_aliases a_serials a_under a_below a_having a_any a_yes a_no a_open a_known a_kinds a_attributes a_values a_isTrue a_isFalse g_tokens g_serial b_there b_parent b_name b_alias b_serials b_sets b_rules b_kinds b_attributes b_numbers b_stack b_searched b_gone b_finds dp I
  have J : i_Rel (k + 5) (f_there, f_isAlias, f_serial, f_tokens, f_found, a_parents, a_names, a_aliases, a_serials, a_under, a_below, a_having, a_any, a_yes, a_no, a_open, a_known, a_kinds, a_attributes, a_values, a_isTrue, a_isFalse) (g_tokens, g_serial, b_there, b_parent, b_name, b_alias, b_serials, b_sets, b_rules, b_kinds, b_attributes, b_numbers, b_stack, b_searched, b_gone, b_finds) := ⟨dp, er_up (by omega) I⟩
  obtain ⟨hTh, hTr, hPar, hNam, hAli, hAlY, hUnd, hBel, hHav, hAny, hSet, hRul, hOpn, hTok, hSer, hFnd⟩ := I
  obtain ⟨ns, ns'⟩ := er_Ser_ne hk hSer
  generalize hon : lw_bz v4 = on
  by_cases h1 : et_T b_there v1
  · obtain ⟨e, he, rfl⟩ := h1
    have lt := et_th_lt he
    cases hal : et_al b_there b_alias e
    · have hs0 := eb_shr0 ((hAli.1 e).trans hal) (by omega)
      by_cases h2 : em_I 6 v2
      · obtain ⟨a, ha, rfl⟩ := h2
        by_cases h3 : em_I 16 v3
        · obtain ⟨v, hv, rfl⟩ := h3
          have e1 : (16 * nI a) + nI v = nI (16 * a + v) := by rw [show (16 : Int32) = nI 16 from rfl, pk_mul, nI_add]
          have e2 : (6 * nI e) + nI a = nI (6 * e + a) := by rw [show (6 : Int32) = nI 6 from rfl, pk_mul, nI_add]
          have c1 : (nI (16 * a + v)).toNatClampNeg = 16 * a + v := nI_clamp (by omega)
          have c2 : (nI (6 * e + a)).toNatClampNeg = 6 * e + a := nI_clamp (by omega)
          have w1 : vp_in (nI (16 * a + v)) 96 := vp_in_nI (by omega) (by decide)
          have w2 : vp_in (nI (6 * e + a)) 288 := vp_in_nI (by omega) (by decide)
          have hb : eb_t (a_having (16 * a + v)) e = bt (b_sets (6 * e + a)) v := by rw [hHav a ha v hv, he, Bool.true_and]
          have Y : ∀ {P : Int32 → SY → Prop}, wY_put_67 P (nI e) (nI a) (nI v) on (em_b (bt (b_sets (6 * e + a)) v)) g_tokens g_serial b_there b_parent b_name b_alias b_serials b_sets b_rules b_kinds b_attributes b_numbers b_stack b_searched b_gone b_finds → wpY_put P (g_tokens, g_serial, b_there, b_parent, b_name, b_alias, b_serials, b_sets, b_rules, b_kinds, b_attributes, b_numbers, b_stack, b_searched, b_gone, b_finds) (nI e) (nI a) (nI v) on := by
            intro P hP
            unfold wpY_put
            refine br_f ns' (ey_isThere_t he (br_f em_10 (ey_isAlias he ?_)))
            rw [hal]
            refine br_t rfl (ey_in_t (N := 6) ha (by decide) (br_f em_10 (ey_in_t (N := 16) hv (by decide) (br_f em_10 ?_))))
            rw [e2]
            refine ⟨w2, ?_⟩
            rw [c2, em_bit1 (by omega)]
            cases hz : bt (b_sets (6 * e + a)) v
            · rw [hz] at hP; exact br_f (by decide) hP
            · rw [hz] at hP; exact br_t rfl hP
          have X : ∀ {P : Int32 → SX → Prop}, wX_put_79 P (nI e) (nI a) on (nI (16 * a + v)) (em_b (bt (b_sets (6 * e + a)) v)) f_there f_isAlias f_serial f_tokens f_found a_parents a_names a_aliases a_serials a_under a_below a_having a_any a_yes a_no a_open a_known a_kinds a_attributes a_values a_isTrue a_isFalse → wpX_put P (f_there, f_isAlias, f_serial, f_tokens, f_found, a_parents, a_names, a_aliases, a_serials, a_under, a_below, a_having, a_any, a_yes, a_no, a_open, a_known, a_kinds, a_attributes, a_values, a_isTrue, a_isFalse) (nI e) (nI a) (nI v) on := by
            intro P hP
            unfold wpX_put
            refine ex_isThere_t hTh he (br_f em_10 (br_t hs0 (ex_in_t (N := 6) ha (by decide) (br_f em_10 (ex_in_t (N := 16) hv (by decide) (br_f em_10 (br_f ns (nm_r e1 ⟨w1, ?_⟩))))))))
            rw [c1]
            cases hz : bt (b_sets (6 * e + a)) v
            · rw [hz] at hP; exact br_t (eb_shr0 (hb.trans hz) (by omega)) hP
            · rw [hz] at hP; exact br_f (eb_shr1 (hb.trans hz)) hP
          refine X ?_
          by_cases hz : em_b (bt (b_sets (6 * e + a)) v) = on
          · exact br_t hz (Y (br_t hz ⟨rfl, J⟩))
          · obtain ⟨s, hs, s1, s2, s3, q1, q2⟩ := hSer
            refine br_f hz ⟨w1, ex_bit (by omega) (fun b hb' => ⟨w1, nm_r (e' := vp_updL a_having (16 * a + v) (a_having (16 * a + v) ^^^ b)) (by rw [c1]) (nm_r (e' := nI (16 * a + 0)) (by rw [show (16 : Int32) = nI 16 from rfl, pk_mul]; rfl) ⟨17, ex_put_113 lt ha s1 (fun an han => ?_) 16 0 0 (by omega) (fun j => ?_)⟩)⟩)⟩
            · refine Y (br_f hz ?_)
              rw [e2]
              refine ⟨w2, w2, ?_⟩
              rw [c2]
              refine nm_e (ey_stamp lt s2 ⟨rfl, dp, ?_⟩)
              rw [s3]
              refine ⟨hTh, hTr, hPar, hNam, hAli, hAlY, hUnd, hBel, er_Hav_put hHav he ha hv hb', fun a' ha' j => ?_, fun j hj a' ha' v' hv' => ?_, hRul, hOpn, hTok, er_Ser_st hs hk q1 q2 (fun i _ h => h), hFnd⟩
              · by_cases y : a' = a
                · subst y; rw [pk_uLs]; exact han j
                · rw [pk_uLn y]
                  have : ∀ v', v' < 16 → vp_updL a_having (16 * a + v) (a_having (16 * a + v) ^^^ b) (16 * a' + v') = a_having (16 * a' + v') := fun v' hv' => pk_uLn (by omega)
                  rw [hAny a' ha' j]
                  exact ⟨fun ⟨v', g, h⟩ => ⟨v', g, by rw [this v' g]; exact h⟩, fun ⟨v', g, h⟩ => ⟨v', g, by rw [← this v' g]; exact h⟩⟩
              · by_cases y : 6 * j + a' = 6 * e + a
                · rw [y, pk_us, b_xor, em_sh1 (by omega), decide_eq_false (show ¬ v' = v by omega), Bool.xor_false]
                  exact hSet e he a ha v' hv'
                · rw [pk_un y]; exact hSet j hj a' ha' v' hv'
            · rw [eb_0]
              exact ⟨fun z => (by cases z), fun ⟨v, g, _⟩ => by omega⟩
        · unfold wpX_put wpY_put
          refine ex_isThere_t hTh he (br_f em_10 (br_t hs0 (ex_in_t (N := 6) ha (by decide) (br_f em_10 (ex_in_f (N := 16) (by decide) h3 (br_t rfl (br_f ns' (ey_isThere_t he (br_f em_10 (ey_isAlias he ?_))))))))))
          rw [hal]
          exact br_t rfl (ey_in_t (N := 6) ha (by decide) (br_f em_10 (ey_in_f (N := 16) (by decide) h3 (br_t rfl ⟨rfl, J⟩))))
      · unfold wpX_put wpY_put
        refine ex_isThere_t hTh he (br_f em_10 (br_t hs0 (ex_in_f (N := 6) (by decide) h2 (br_t rfl (br_f ns' (ey_isThere_t he (br_f em_10 (ey_isAlias he ?_))))))))
        rw [hal]
        exact br_t rfl (ey_in_f (N := 6) (by decide) h2 (br_t rfl ⟨rfl, J⟩))
    · unfold wpX_put wpY_put
      refine ex_isThere_t hTh he (br_f em_10 (br_f (eb_shr1 ((hAli.1 e).trans hal)) (br_f ns' (ey_isThere_t he (br_f em_10 (ey_isAlias he ?_))))))
      rw [hal]
      exact br_f em_10 ⟨rfl, J⟩
  · unfold wpX_put wpY_put
    exact ex_isThere_f hTh h1 (br_t rfl (br_f ns' (ey_isThere_f h1 (br_t rfl ⟨rfl, J⟩))))
end
section
/-! ===== changed ===== -/
def ec_c (t sr : Nat → Int32) (after : Int32) (e : Nat) : Bool := et_th t e && !decide (sr e ≤ after)
def ec_q (t sr : Nat → Int32) (after : Int32) (e o : Nat) : Bool := ec_c t sr after o && !decide (sr e ≤ sr o)
/-- the number of candidates with a smaller serial -/
def ec_r (t sr : Nat → Int32) (after : Int32) (e : Nat) : Nat := et_cn (ec_q t sr after e) 48
def ec_p (t sr : Nat → Int32) (after p : Int32) (e : Nat) : Bool := ec_c t sr after e && decide (nI (ec_r t sr after e) = p)
theorem em_tot {a b : Int32} (h : ¬ a ≤ b) : b ≤ a := by
  rw [Int32.le_iff_toInt_le] at *
  omega
theorem em_anti {a b : Int32} (h : a ≤ b) (h' : b ≤ a) : a = b := by
  rw [Int32.le_iff_toInt_le] at *
  exact Int32.toInt_inj.mp (by omega)
theorem em_letr {a b c : Int32} (h : a ≤ b) (h' : b ≤ c) : a ≤ c := by
  rw [Int32.le_iff_toInt_le] at *
  omega
theorem em_lel {a b : Int32} : a < b ↔ ¬ b ≤ a := by
  rw [Int32.le_iff_toInt_le, Int32.lt_iff_toInt_lt]
  omega
section
variable {t sr : Nat → Int32} {after : Int32}
theorem ec_c_th {e : Nat} (h : ec_c t sr after e = true) : et_th t e = true := by
  unfold ec_c at h; rw [Bool.and_eq_true] at h; exact h.1
theorem ec_q_t {e o : Nat} (h : ec_c t sr after o = true) (h' : ¬ sr e ≤ sr o) : ec_q t sr after e o = true := by
  unfold ec_q; rw [h, decide_eq_false h']; rfl
theorem ec_q_f {e o : Nat} (h : sr e ≤ sr o) : ec_q t sr after e o = false := by
  unfold ec_q; rw [decide_eq_true h, Bool.not_true, Bool.and_false]
theorem ec_q_i {e o : Nat} (h : ec_q t sr after e o = true) : ec_c t sr after o = true ∧ ¬ sr e ≤ sr o := by
  unfold ec_q at h
  rw [Bool.and_eq_true] at h
  refine ⟨h.1, fun z => ?_⟩
  rw [decide_eq_true z] at h
  exact absurd h.2 (by decide)
/-- ranks grow with the serial -/
theorem ec_r_lt {e e' : Nat} (h : ec_c t sr after e = true) (hlt : ¬ sr e' ≤ sr e) : ec_r t sr after e < ec_r t sr after e' := by
  refine et_cn_lt (e := e) (et_th_lt (ec_c_th h)) (ec_q_f (by rw [Int32.le_iff_toInt_le]; omega)) (ec_q_t h hlt) (fun o _ ho => ?_)
  obtain ⟨a, b⟩ := ec_q_i ho
  exact ec_q_t a (fun z => b (em_letr (em_tot hlt) z))
theorem ec_r_inj (hd : ∀ i j, et_th t i = true → et_th t j = true → sr i = sr j → i = j) {e e' : Nat} (h : ec_c t sr after e = true) (h' : ec_c t sr after e' = true) (hr : ec_r t sr after e = ec_r t sr after e') : e = e' := by
  by_cases z : sr e' ≤ sr e
  · by_cases y : sr e ≤ sr e'
    · exact hd e e' (ec_c_th h) (ec_c_th h') (em_anti y z)
    · have := ec_r_lt h' y; omega
  · have := ec_r_lt h z; omega
theorem ec_r_le (e : Nat) : ec_r t sr after e ≤ 48 := et_cn_le _ _
/-- the state of the component's selection behind j of them -/
def ec_I (t sr : Nat → Int32) (after : Int32) (left : Int64) (j : Nat) : Prop :=
  (∀ e, eb_t left e = true → ec_c t sr after e = true) ∧ et_cn (fun e => ec_c t sr after e && !eb_t left e) 48 = j ∧
  ∀ r l, ec_c t sr after r = true → eb_t left r = false → eb_t left l = true → ¬ sr l ≤ sr r
theorem ec_I_none {left : Int64} {j : Nat} (h : ec_I t sr after left j) (hl : left = 0) {e : Nat} (he : ec_c t sr after e = true) : ec_r t sr after e < j := by
  rw [← h.2.1]
  refine et_cn_lt (e := e) (et_th_lt (ec_c_th he)) (ec_q_f (by rw [Int32.le_iff_toInt_le]; omega)) (by rw [he, hl, eb_0]; rfl) (fun o _ ho => ?_)
  rw [(ec_q_i ho).1, hl, eb_0]; rfl
theorem ec_I_min {left : Int64} {j : Nat} (h : ec_I t sr after left j) {m : Nat} (hm : eb_t left m = true) (hmin : ∀ i, eb_t left i = true → sr m ≤ sr i) : ec_r t sr after m = j := by
  rw [← h.2.1]
  refine et_cn_c 48 (fun o _ => ?_)
  cases hl : eb_t left o
  · cases hc : ec_c t sr after o
    · unfold ec_q; rw [hc]; rfl
    · rw [ec_q_t hc (h.2.2 o m hc hl hm)]; rfl
  · rw [ec_q_f (hmin o hl), h.1 o hl]; rfl
theorem ec_I_next (hd : ∀ i j, et_th t i = true → et_th t j = true → sr i = sr j → i = j) {left : Int64} {j : Nat} (h : ec_I t sr after left j) {m : Nat} (hm : eb_t left m = true) (hmin : ∀ i, eb_t left i = true → sr m ≤ sr i)
    {b : Int64} (hb : ∀ i, eb_t b i = decide (i = m)) : ec_I t sr after (left &&& (b ^^^ (-1))) (j + 1) := by
  have B : ∀ i, eb_t (left &&& (b ^^^ (-1))) i = (eb_t left i && !decide (i = m)) := by
    intro i
    rw [eb_and]
    rcases Nat.lt_or_ge i 64 with y | y
    · rw [eb_not _ y, hb]
    · rw [eb_big y]; rfl
  have hc := h.1 m hm
  refine ⟨fun e he => ?_, ?_, fun r l hr h1 h2 => ?_⟩
  · rw [B, Bool.and_eq_true] at he; exact h.1 e he.1
  · rw [← h.2.1]
    refine et_cn_ins (e := m) 48 (et_th_lt (ec_c_th hc)) (by rw [hm, hc]; rfl) (fun i _ => ?_)
    rw [B]
    by_cases y : i = m
    · subst y; rw [hc, hm, decide_eq_true rfl]; rfl
    · rw [decide_eq_false y, Bool.not_false, Bool.and_true, Bool.or_false]
  · rw [B, Bool.and_eq_true] at h2
    by_cases y : r = m
    · subst y
      have nl : l ≠ r := fun w => by rw [w, decide_eq_true rfl] at h2; exact absurd h2.2 (by decide)
      intro w
      exact nl (hd l r (ec_c_th (h.1 l h2.1)) (ec_c_th hc) (em_anti w (hmin l h2.1)))
    · rw [B, decide_eq_false y, Bool.not_false, Bool.and_true] at h1
      exact h.2.2 r l hr h1 h2.1
end
section
variable {f_there f_isAlias f_found : Int64} {f_serial f_tokens : Int32} {a_parents a_names a_aliases a_serials a_known a_kinds a_attributes a_values : Nat → Int32} {a_under a_below a_having a_any a_yes a_no a_open a_isTrue a_isFalse : Nat → Int64}
variable {post : Int32 → Prop} {t : Nat → Int32} {after : Int32}
theorem ex_changed_81 {J : Int64 → Int32 → Int32 → Prop} {x2 : Int32} {left : Int64} {j e0 : Nat} (hx : ∀ i, 48 ≤ i → eb_t left i = false) (h0 : eb_t left e0 = true)
    (H : ∀ m b, eb_t left m = true → (∀ i, eb_t left i = true → a_serials m ≤ a_serials i) → (∀ i, eb_t b i = decide (i = m)) → J (left &&& (b ^^^ (-1))) (nI m) (nI (j + 1))) :
    wX_changed_81 post J x2 left (nI j) f_there f_isAlias f_serial f_tokens f_found a_parents a_names a_aliases a_serials a_under a_below a_having a_any a_yes a_no a_open a_known a_kinds a_attributes a_values a_isTrue a_isFalse 49 (nI e0) left := by
  refine eb_loop0 (fun n r (s : Nat) => wX_changed_81 post J x2 left (nI j) f_there f_isAlias f_serial f_tokens f_found a_parents a_names a_aliases a_serials a_under a_below a_having a_any a_yes a_no a_open a_known a_kinds a_attributes a_values a_isTrue a_isFalse n (nI s) r) left (fun m s => eb_t left s = true ∧ ∀ i, i < m → eb_t left i = true → a_serials s ≤ a_serials i) hx ?_ ?_ ?_ e0 ⟨h0, fun i hi => by omega⟩
  · intro n s hI
    exact br_t rfl (ex_bit (eb_lt hI.1) (fun b hb => nm_e (nm_r (nI_1 j) (H s b hI.1 (fun i hi => hI.2 i (by
      rcases Nat.lt_or_ge i 48 with y | y
      · exact y
      · rw [hx i y] at hi; cases hi) hi) hb))))
  · intro m s hm hI hb
    refine ⟨hI.1, fun i hi hl => ?_⟩
    by_cases y : i = m
    · rw [y, hb] at hl; cases hl
    · exact hI.2 i (by omega) hl
  · intro n m s r hm hI hb hr hl K
    have sl : s < 48 := by
      rcases Nat.lt_or_ge s 48 with y | y
      · exact y
      · have := hx s y; rw [hI.1] at this; cases this
    have cm : (nI m).toNatClampNeg = m := nI_clamp (by omega)
    have cs : (nI s).toNatClampNeg = s := nI_clamp (by omega)
    refine br_f (eb_ne hr) (ex_lowest hr hl ⟨vp_in_nI hm (by decide), vp_in_nI sl (by decide), ?_⟩)
    rw [cm, cs]
    by_cases z : a_serials s ≤ a_serials m
    · refine br_t z (nm_e (K s ⟨hI.1, fun i hi hl => ?_⟩))
      by_cases y : i = m
      · rw [y]; exact z
      · exact hI.2 i (by omega) hl
    · refine br_f z (nm_e (K m ⟨hb, fun i hi hl => ?_⟩))
      by_cases y : i = m
      · rw [y, Int32.le_iff_toInt_le]; omega
      · exact em_letr (em_tot z) (hI.2 i (by omega) hl)
theorem ex_changed_58 (hd : ∀ i j, et_th t i = true → et_th t j = true → a_serials i = a_serials j → i = j) {K : Nat} (hK : K < 2 ^ 31) (h : post (et_fs (ec_p t a_serials after (nI K)) 48 0)) :
    ∀ d j left at', j + d = 49 → ec_I t a_serials after left j → j ≤ K + 1 → (0 < j → ∃ m, ec_c t a_serials after m = true ∧ ec_r t a_serials after m + 1 = j ∧ at' = nI m) → wX_changed_58 post (nI K) f_there f_isAlias f_serial f_tokens f_found a_parents a_names a_aliases a_serials a_under a_below a_having a_any a_yes a_no a_open a_known a_kinds a_attributes a_values a_isTrue a_isFalse (d + 1) left at' (nI j) := by
  intro d
  induction d with
  | zero =>
    intro j left at' hj hI hjk hat
    have := et_cn_le (fun e => ec_c t a_serials after e && !eb_t left e) 48
    rw [hI.2.1] at this
    omega
  | succ d ih =>
    intro j left at' hj hI hjk hat
    by_cases hlt : K < j
    · obtain ⟨m, hc, hr, rfl⟩ := hat (by omega)
      refine br_t (nI_lt hlt (by omega)) ?_
      rw [et_fs_u (e := m) (et_th_lt (ec_c_th hc))] at h
      · exact h
      · unfold ec_p; rw [hc, decide_eq_true (show nI (ec_r t a_serials after m) = nI K by rw [show ec_r t a_serials after m = K by omega])]; rfl
      · intro i hi hp
        unfold ec_p at hp
        rw [Bool.and_eq_true] at hp
        have a := (nI_eq (by have := ec_r_le (t := t) (sr := a_serials) (after := after) i; omega) hK).mp (of_decide_eq_true hp.2)
        exact ec_r_inj hd hp.1 hc (by omega)
    · refine br_f (nI_nlt (by omega) hK) ?_
      by_cases z : left = 0
      · refine br_t z ?_
        rw [et_fs_n] at h
        · exact h
        · intro i hi
          cases hc : ec_c t a_serials after i
          · unfold ec_p; rw [hc]; rfl
          · have a := ec_I_none hI z hc
            have b := ec_r_le (t := t) (sr := a_serials) (after := after) i
            unfold ec_p
            rw [hc, decide_eq_false (fun y => by have := (nI_eq (by omega) hK).mp y; omega)]; rfl
      · obtain ⟨e0, _, h0, hl⟩ := eb_low z
        refine br_f z (ex_lowest h0 hl ⟨49, ex_changed_81 (fun i hi => ?_) h0 (fun m b hm hmin hb => ?_)⟩)
        · cases y : eb_t left i
          · rfl
          · have := et_th_lt (ec_c_th (hI.1 i y)); omega
        · exact ih (j + 1) _ _ (by omega) (ec_I_next hd hI hm hmin hb) (by omega) (fun _ => ⟨m, hI.1 m hm, by rw [ec_I_min hI hm hmin], rfl⟩)
theorem ex_changed (hT : er_Th f_there t) (hd : ∀ i j, et_th t i = true → et_th t j = true → a_serials i = a_serials j → i = j) {K : Nat} (hK : K < 2 ^ 31) (h : post (et_fs (ec_p t a_serials after (nI K)) 48 0)) : wpX_changed post (f_there, f_isAlias, f_serial, f_tokens, f_found, a_parents, a_names, a_aliases, a_serials, a_under, a_below, a_having, a_any, a_yes, a_no, a_open, a_known, a_kinds, a_attributes, a_values, a_isTrue, a_isFalse) after (nI K) := by
  unfold wpX_changed
  have L : ∀ d i left, i + d = 48 → (∀ e, eb_t left e = (decide (e < i) && ec_c t a_serials after e)) → wX_changed_11 post after (nI K) f_there f_isAlias f_serial f_tokens f_found a_parents a_names a_aliases a_serials a_under a_below a_having a_any a_yes a_no a_open a_known a_kinds a_attributes a_values a_isTrue a_isFalse (d + 1) left (nI i) := by
    intro d
    induction d with
    | zero =>
      intro i left hi hl
      obtain rfl : i = 48 := by omega
      have E : ∀ e, eb_t left e = ec_c t a_serials after e := fun e => by
        rw [hl]
        rcases Nat.lt_or_ge e 48 with y | y
        · rw [decide_eq_true y, Bool.true_and]
        · unfold ec_c; rw [et_th_big y, Bool.false_and, Bool.and_false]
      refine br_t (nI_le (a := 48) (b := 48) (Nat.le_refl _) (by decide)) ⟨50, ex_changed_58 hd hK h 49 0 left (-1) (by omega) ⟨fun e he => by rw [← E]; exact he, et_cn_0 (fun e _ => by rw [E, Bool.and_not_self]), fun r l h1 h2 _ => ?_⟩ (by omega) (fun z => by omega)⟩
      rw [E, h1] at h2; cases h2
    | succ d ih =>
      intro i left hi hl
      have ci : (nI i).toNatClampNeg = i := nI_clamp (by omega)
      have G : ec_c t a_serials after i = false → ∀ e, eb_t left e = (decide (e < i + 1) && ec_c t a_serials after e) := by
        intro hc e
        rw [hl]
        rcases Nat.lt_trichotomy e i with y | y | y
        · rw [decide_eq_true y, decide_eq_true (show e < i + 1 by omega)]
        · rw [y, hc, Bool.and_false, Bool.and_false]
        · rw [decide_eq_false (show ¬ e < i by omega), decide_eq_false (show ¬ e < i + 1 by omega)]
      refine br_f (nI_ge (b := 48) (by omega) (by decide)) ?_
      cases ht : et_th t i
      · refine ex_isThere_f hT (fun ⟨j, hj, z⟩ => ?_) (br_t rfl (nm_r (nI_1 i) (ih (i + 1) left (by omega) (G (by unfold ec_c; rw [ht]; rfl)))))
        have := et_th_lt hj
        rw [nI_eq (by omega) (by omega)] at z
        rw [z, hj] at ht
        cases ht
      · refine ex_isThere_t hT ht (br_f em_10 ⟨vp_in_nI (by omega) (by decide), ?_⟩)
        rw [ci]
        by_cases z : a_serials i ≤ after
        · exact br_t z (nm_r (nI_1 i) (ih (i + 1) left (by omega) (G (by unfold ec_c; rw [decide_eq_true z, Bool.not_true, Bool.and_false]))))
        · refine br_f z (ex_bit (by omega) (fun b hb => nm_e (nm_r (nI_1 i) (ih (i + 1) _ (by omega) (fun e => ?_)))))
          rw [eb_or, hb, hl]
          rcases Nat.lt_trichotomy e i with y | y | y
          · rw [decide_eq_true y, decide_eq_false (show ¬ e = i by omega), decide_eq_true (show e < i + 1 by omega), Bool.or_false]
          · subst y
            rw [decide_eq_true (rfl : e = e), Bool.or_true, decide_eq_true (Nat.lt_succ_self e)]
            unfold ec_c; rw [ht, decide_eq_false z]; rfl
          · rw [decide_eq_false (show ¬ e < i by omega), decide_eq_false (show ¬ e = i by omega), decide_eq_false (show ¬ e < i + 1 by omega)]; rfl
  exact br_t (nI_pos' hK) ⟨49, L 48 0 0 (by omega) (fun e => by rw [eb_0, decide_eq_false (Nat.not_lt_zero e)]; rfl)⟩
end
section
variable {g_tokens g_serial : Int32} {b_there b_parent b_name b_alias b_serials b_sets b_rules b_kinds b_attributes b_numbers b_stack b_searched b_gone b_finds : Nat → Int32}
variable {post : Int32 → Prop} {after p : Int32}
theorem ey_changed_42 {J : Int32 → Prop} {e : Nat} (he : e < 48) (h1 : nI (ec_r b_there b_serials after e) = p → post (nI e)) (h2 : ¬ nI (ec_r b_there b_serials after e) = p → J (nI (e + 1))) :
    ∀ d i, i + d = 48 → wY_changed_42 post J after p (nI e) g_tokens g_serial b_there b_parent b_name b_alias b_serials b_sets b_rules b_kinds b_attributes b_numbers b_stack b_searched b_gone b_finds (d + 1) (nI (et_cn (ec_q b_there b_serials after e) i)) (nI i) := by
  have ce : (nI e).toNatClampNeg = e := nI_clamp (by omega)
  intro d
  induction d with
  | zero =>
    intro i hi
    obtain rfl : i = 48 := by omega
    exact br_t (nI_le (a := 48) (b := 48) (Nat.le_refl _) (by decide)) (br_c h1 (fun z => nm_r (nI_1 e) (h2 z)))
  | succ d ih =>
    intro i hi
    have ih := ih (i + 1) (by omega)
    have ci : (nI i).toNatClampNeg = i := nI_clamp (by omega)
    have v : vp_in (nI i) 48 := vp_in_nI (by omega) (by decide)
    refine br_f (nI_ge (b := 48) (by omega) (by decide)) ⟨v, ?_⟩
    rw [ci, ce]
    cases ht : et_th b_there i
    · rw [et_cn_f (by unfold ec_q ec_c; rw [ht]; rfl)] at ih
      exact br_t (et_th_f ht (by omega)) (nm_r (nI_1 i) ih)
    · refine br_f (et_th_ne ht) ⟨v, ?_⟩
      by_cases z : b_serials i ≤ after
      · rw [et_cn_f (by unfold ec_q ec_c; rw [decide_eq_true z, Bool.not_true, Bool.and_false]; rfl)] at ih
        exact br_t z (nm_r (nI_1 i) ih)
      · refine br_f z ⟨v, vp_in_nI he (by decide), ?_⟩
        by_cases y : b_serials e ≤ b_serials i
        · rw [et_cn_f (ec_q_f y)] at ih
          exact br_t y (nm_r (nI_1 i) ih)
        · rw [et_cn_t (ec_q_t (by unfold ec_c; rw [ht, decide_eq_false z]; rfl) y)] at ih
          exact br_f y (nm_r (nI_1 _) (nm_r (nI_1 i) ih))
theorem ey_changed (hp : 0 ≤ p) (h : post (et_fs (ec_p b_there b_serials after p) 48 0)) : wpY_changed post (g_tokens, g_serial, b_there, b_parent, b_name, b_alias, b_serials, b_sets, b_rules, b_kinds, b_attributes, b_numbers, b_stack, b_searched, b_gone, b_finds) after p := by
  unfold wpY_changed
  have L : ∀ d i, i + d = 48 → post (et_fs (ec_p b_there b_serials after p) d i) → wY_changed_8 post after p g_tokens g_serial b_there b_parent b_name b_alias b_serials b_sets b_rules b_kinds b_attributes b_numbers b_stack b_searched b_gone b_finds (d + 1) (nI i) := by
    intro d
    induction d with
    | zero =>
      intro i hi h
      obtain rfl : i = 48 := by omega
      exact br_t (nI_le (a := 48) (b := 48) (Nat.le_refl _) (by decide)) h
    | succ d ih =>
      intro i hi h
      have ih := ih (i + 1) (by omega)
      have ci : (nI i).toNatClampNeg = i := nI_clamp (by omega)
      have v : vp_in (nI i) 48 := vp_in_nI (by omega) (by decide)
      refine br_f (nI_ge (b := 48) (by omega) (by decide)) ⟨v, ?_⟩
      rw [ci]
      cases ht : et_th b_there i
      · rw [et_fs_f (by unfold ec_p ec_c; rw [ht]; rfl)] at h
        exact br_t (et_th_f ht (by omega)) (nm_r (nI_1 i) (ih h))
      · refine br_f (et_th_ne ht) ⟨v, ?_⟩
        by_cases z : b_serials i ≤ after
        · rw [et_fs_f (by unfold ec_p ec_c; rw [decide_eq_true z, Bool.not_true, Bool.and_false]; rfl)] at h
          exact br_f (fun y => em_lel.mp y z) (nm_r (nI_1 i) (ih h))
        · have hc : ec_c b_there b_serials after i = true := by unfold ec_c; rw [ht, decide_eq_false z]; rfl
          refine br_t (em_lel.mpr z) ⟨49, ey_changed_42 (by omega) (fun y => ?_) (fun y => ?_) 48 0 (by omega)⟩
          · rw [et_fs_t (by unfold ec_p; rw [hc, decide_eq_true y]; rfl)] at h
            exact h
          · rw [et_fs_f (by unfold ec_p; rw [hc, decide_eq_false y]; rfl)] at h
            exact ih h
  exact br_t hp ⟨49, L 48 0 (by omega) h⟩
end
theorem i_vc_changed {k : Nat} {u : SX} {v : SY} (I : i_Rel k u v) (hk : k + 5 ≤ 2560) (v1 : Int32) (v2 : Int32) : wpX_changed (fun r => wpY_changed (fun r' => r' = r ∧ i_Rel (k + 5) u v) v v1 v2) u v1 v2 := by
  refine er_el (P := fun u v => wpX_changed (fun r => wpY_changed (fun r' => r' = r ∧ i_Rel (k + 5) u v) v v1 v2) u v1 v2) ?_ I
  intro f_there f_isAlias f_serial f_tokens f_found a_parents a_names a_aliases a_serials a_under a_below a_having a_any a_yes a_no a_open a_known a_kinds a_attributes a_values a_isTrue a_isFalse g_tokens g_serial b_there b_parent b_name b_alias b_serials b_sets b_rules b_kinds b_attributes b_numbers b_stack b_searched b_gone b_finds dp I
  have J : i_Rel (k + 5) (f_there, f_isAlias, f_serial, f_tokens, f_found, a_parents, a_names, a_aliases, a_serials, a_under, a_below, a_having, a_any, a_yes, a_no, a_open, a_known, a_kinds, a_attributes, a_values, a_isTrue, a_isFalse) (g_tokens, g_serial, b_there, b_parent, b_name, b_alias, b_serials, b_sets, b_rules, b_kinds, b_attributes, b_numbers, b_stack, b_searched, b_gone, b_finds) := ⟨dp, er_up (by omega) I⟩
  obtain ⟨hTh, hTr, hPar, hNam, hAli, hAlY, hUnd, hBel, hHav, hAny, hSet, hRul, hOpn, hTok, hSer, hFnd⟩ := I
  obtain ⟨s, hs, s1, s2, s3, q1, q2⟩ := hSer
  by_cases z : v2 < 0
  · have g : ¬ 0 ≤ v2 := fun y => by
      rw [Int32.lt_iff_toInt_lt] at z
      rw [Int32.le_iff_toInt_le] at y
      omega
    unfold wpX_changed wpY_changed
    exact br_f g (br_f g ⟨rfl, J⟩)
  · obtain ⟨K, hK, rfl⟩ := nI_of z
    refine ex_changed hTh (by rw [s3]; exact q2) hK (ey_changed (nI_pos' hK) ⟨?_, J⟩)
    rw [s3]
end
section
/-! ===== add ===== -/
def ea_p (t q nm : Nat → Int32) (p : Nat) (w : Int32) (e : Nat) : Bool := et_th t e && decide (q e = nI p) && decide (nm e = w)
theorem em_full48 : ∀ i, i < 64 → eb_t (((1 : Int64) <<< ((48 : Int32).toInt64 &&& 63)) - 1) i = decide (i < 48) := by decide +kernel
theorem em_fullI {x : Int64} {t : Nat → Int32} (hT : er_Th x t) : x = ((1 : Int64) <<< ((48 : Int32).toInt64 &&& 63)) - 1 ↔ ∀ i, i < 48 → et_th t i = true := by
  constructor
  · intro h i hi
    rw [← hT i, h, em_full48 i (by omega), decide_eq_true hi]
  · intro h
    apply eb_ext
    intro i hi
    rw [em_full48 i hi, hT i]
    rcases Nat.lt_or_ge i 48 with y | y
    · rw [h i y, decide_eq_true y]
    · rw [et_th_big y, decide_eq_false (by omega)]
theorem em_fs0 {p : Nat → Bool} : et_fs p 48 0 < 0 ↔ ¬ 0 ≤ et_fs p 48 0 := by
  rw [Int32.lt_iff_toInt_lt, Int32.le_iff_toInt_le]
  omega
theorem em_byte1 : vp_nar .byte (-1 : Int32).toInt8.toInt32 = -1 := by rw [vp_nar_byte]; decide
/-- an alias argument: none, or an entry -/
def ea_A (t : Nat → Int32) (x : Int32) : Prop := x = -1 ∨ et_T t x
theorem ea_byte {t : Nat → Int32} {x : Int32} (h : ea_A t x) : vp_nar .byte x.toInt8.toInt32 = x := by
  rcases h with rfl | ⟨j, hj, rfl⟩
  · exact em_byte1
  · exact em_byte (by have := et_th_lt hj; omega)
theorem em_nIm1 {j : Nat} (h : j < 2 ^ 31) : ¬ nI j = -1 := fun z => by
  have := congrArg Int32.toInt z
  rw [nI_toInt h, show (-1 : Int32).toInt = -1 from by decide] at this
  omega
theorem em_nIm2 {j : Nat} (h : j < 2 ^ 31) : ¬ nI j = -2 := fun z => by
  have := congrArg Int32.toInt z
  rw [nI_toInt h, show (-2 : Int32).toInt = -2 from by decide] at this
  omega
section
variable {f_there f_isAlias f_found : Int64} {f_serial f_tokens : Int32} {a_parents a_names a_aliases a_serials a_known a_kinds a_attributes a_values : Nat → Int32} {a_under a_below a_having a_any a_yes a_no a_open a_isTrue a_isFalse : Nat → Int64}
variable {post : Int32 → SX → Prop} {t q l nm : Nat → Int32} {dp : Nat → Nat}
theorem ex_add_153 (hTr : et_Tr dp t q) {p e s : Nat} (hp : et_th t p = true) (he : e < 48) (hc : ∀ j, et_U dp q p j = true → a_parents j = q j) (hs : f_serial = nI s)
    (H : ∀ b b' bel kn, (∀ i, eb_t b i = decide (i = e)) → (∀ i, eb_t b' i = decide (i = e)) → ex_cs dp q a_below bel b' 1 p → (∀ k, k < 24 → kn k = 0) → post (nI e) (f_there, f_isAlias, nI (s + 1), f_tokens, f_found, a_parents, a_names, a_aliases, upd a_serials e (nI (s + 1)), vp_updL a_under p (a_under p ||| b), bel, a_having, a_any, a_yes, a_no, a_open, kn, a_kinds, a_attributes, a_values, a_isTrue, a_isFalse)) :
    wX_add_153 post (nI p) (nI e) f_there f_isAlias f_serial f_tokens f_found a_parents a_names a_aliases a_serials a_under a_below a_having a_any a_yes a_no a_open a_known a_kinds a_attributes a_values a_isTrue a_isFalse := by
  have lt := et_th_lt hp
  have cp : (nI p).toNatClampNeg = p := nI_clamp (by omega)
  have vp : vp_in (nI p) 48 := vp_in_nI lt (by decide)
  refine ⟨vp, ex_bit (by omega) (fun b hb => ⟨vp, nm_r (e' := vp_updL a_under p (a_under p ||| b)) (by rw [cp]) (ex_bit (by omega) (fun b' hb' => ex_carry hTr hp hc (fun bel hbel => ?_)))⟩)⟩
  subst hs
  exact nm_r (nI_1 s) ⟨vp_in_nI he (by decide), nm_r (e' := upd a_serials e (nI (s + 1))) (by rw [nI_clamp (by omega), nI_1]) (ex_forget (fun kn hkn => H b b' bel kn hb hb' hbel hkn))⟩
theorem ex_add_43 (hT : er_Th f_there t) (hTr : et_Tr dp t q) (hP : er_Par t q a_parents) (hU : er_Und t q a_under) (hN : er_Nam t nm a_names) {p s : Nat} {w x : Int32} (hp : et_th t p = true) (hw : vp_nar .byte w.toInt8.toInt32 = w) (hx : ea_A t x) (hs : f_serial = nI s) (ns : ¬ f_serial = 1000000000)
    (H1 : (∀ i, i < 48 → et_th t i = true) → post (-1) (f_there, f_isAlias, f_serial, f_tokens, f_found, a_parents, a_names, a_aliases, a_serials, a_under, a_below, a_having, a_any, a_yes, a_no, a_open, a_known, a_kinds, a_attributes, a_values, a_isTrue, a_isFalse)) (H2 : ¬ (∀ i, i < 48 → et_th t i = true) → 0 ≤ et_fs (ea_p t q nm p w) 48 0 → post (-1) (f_there, f_isAlias, f_serial, f_tokens, f_found, a_parents, a_names, a_aliases, a_serials, a_under, a_below, a_having, a_any, a_yes, a_no, a_open, a_known, a_kinds, a_attributes, a_values, a_isTrue, a_isFalse))
    (H : ∀ e A b bel kn, e < 48 → et_th t e = false → (∀ i, i < e → et_th t i = true) → ¬ 0 ≤ et_fs (ea_p t q nm p w) 48 0 → (∀ i, eb_t b i = decide (i = e)) → (∀ i, eb_t A i = (eb_t f_isAlias i || (!decide (x = -1) && decide (i = e)))) → ex_cs dp q a_below bel b 1 p → (∀ k, k < 24 → kn k = 0) → post (nI e) (f_there ||| b, A, nI (s + 1), f_tokens, f_found, upd a_parents e (nI p), upd a_names e w, upd a_aliases e x, upd a_serials e (nI (s + 1)), vp_updL a_under p (a_under p ||| b), bel, a_having, a_any, a_yes, a_no, a_open, kn, a_kinds, a_attributes, a_values, a_isTrue, a_isFalse)) :
    wX_add_43 post (nI p) w x f_there f_isAlias f_serial f_tokens f_found a_parents a_names a_aliases a_serials a_under a_below a_having a_any a_yes a_no a_open a_known a_kinds a_attributes a_values a_isTrue a_isFalse := by
  have lt := et_th_lt hp
  unfold wX_add_43 wpX_bit
  by_cases hf : ∀ i, i < 48 → et_th t i = true
  · exact br_t ((em_fullI hT).mpr hf) (H1 hf)
  · refine br_f (fun z => hf ((em_fullI hT).mp z)) (br_f ns (ex_named hTr hU hN lt ?_))
    by_cases h0 : 0 ≤ et_fs (ea_p t q nm p w) 48 0
    · exact br_f (fun z => em_fs0.mp z h0) (H2 hf h0)
    · refine br_t (em_fs0.mpr h0) ?_
      have hex : ∃ e, e < 48 ∧ et_th t e = false := by
        apply Classical.byContradiction
        intro z
        apply hf
        intro i hi
        cases y : et_th t i
        · exact absurd ⟨i, hi, y⟩ z
        · rfl
      obtain ⟨e, ⟨he, hn⟩, hmin⟩ := pk_least _ hex
      have hle : ∀ i, i < e → et_th t i = true := fun i hi => by
        cases y : et_th t i
        · exact absurd ⟨by omega, y⟩ (hmin i hi)
        · rfl
      have ce : (nI e).toNatClampNeg = e := nI_clamp (by omega)
      have ve : vp_in (nI e) 48 := vp_in_nI he (by decide)
      have hc : ∀ j, et_U dp q p j = true → upd a_parents e (nI p) j = q j := by
        intro j hj
        have tj : et_th t j = true := by
          unfold et_U at hj
          rw [Bool.or_eq_true] at hj
          rcases hj with hj | hj
          · rw [of_decide_eq_true hj]; exact hp
          · exact (et_B_th hTr p hp j hj).1
        rw [pk_un (fun z => by rw [z, hn] at tj; cases tj)]
        exact hP j tj
      refine ex_lowest (e := e) (by rw [eb_not _ (by omega), hT, hn]; rfl) (fun i hi => by rw [eb_not _ (by omega), hT, hle i hi]; rfl) ?_
      refine nm_e ⟨ve, nm_r (e' := upd a_parents e (nI p)) (by rw [ce, em_byte (by omega)]) ⟨ve, nm_r (e' := upd a_names e w) (by rw [ce, hw]) ⟨ve, nm_r (e' := upd a_aliases e x) (by rw [ce, ea_byte hx]) ?_⟩⟩⟩
      have b0 := eb_bit (j := e) (by omega)
      have eqb : ∀ b b' : Int64, (∀ i, eb_t b i = decide (i = e)) → (∀ i, eb_t b' i = decide (i = e)) → b' = b := fun b b' h1 h2 => eb_ext (fun i _ => by rw [h1, h2])
      by_cases z : x = -1
      · refine br_t z (ex_add_153 (t := t) hTr hp he hc hs (fun b b' bel kn hb hb' hbel hkn => ?_))
        have e1 := eqb b _ hb b0
        have e2 := eqb b b' hb hb'
        subst e2
        rw [e1]
        exact H e f_isAlias b' bel kn he hn hle h0 hb (fun i => by rw [decide_eq_true z]; exact (Bool.or_false _).symm) hbel hkn
      · refine br_f z (nm_e (ex_add_153 (t := t) hTr hp he hc hs (fun b b' bel kn hb hb' hbel hkn => ?_)))
        have e1 := eqb b _ hb b0
        have e2 := eqb b b' hb hb'
        subst e2
        rw [e1]
        exact H e (f_isAlias ||| b') b' bel kn he hn hle h0 hb (fun i => by rw [eb_or, hb, decide_eq_false z]; rfl) hbel hkn
end
section
variable {g_tokens g_serial : Int32} {b_there b_parent b_name b_alias b_serials b_sets b_rules b_kinds b_attributes b_numbers b_stack b_searched b_gone b_finds : Nat → Int32}
variable {post : Int32 → SY → Prop} {dp : Nat → Nat}
theorem ey_add_61 {x1 x2 x3 : Int32} (H1 : (∀ i, i < 48 → et_th b_there i = true) → post (-1) (g_tokens, g_serial, b_there, b_parent, b_name, b_alias, b_serials, b_sets, b_rules, b_kinds, b_attributes, b_numbers, b_stack, b_searched, b_gone, b_finds))
    (H : ∀ e, e < 48 → et_th b_there e = false → (∀ i, i < e → et_th b_there i = true) → wY_add_84 post x1 x2 x3 (nI e) g_tokens g_serial b_there b_parent b_name b_alias b_serials b_sets b_rules b_kinds b_attributes b_numbers b_stack b_searched b_gone b_finds) : ∃ n, wY_add_61 post x1 x2 x3 g_tokens g_serial b_there b_parent b_name b_alias b_serials b_sets b_rules b_kinds b_attributes b_numbers b_stack b_searched b_gone b_finds n 0 := by
  have L : ∀ d i, i + d = 48 → (∀ j, j < i → et_th b_there j = true) → wY_add_61 post x1 x2 x3 g_tokens g_serial b_there b_parent b_name b_alias b_serials b_sets b_rules b_kinds b_attributes b_numbers b_stack b_searched b_gone b_finds (d + 1) (nI i) := by
    intro d
    induction d with
    | zero =>
      intro i hi h
      obtain rfl : i = 48 := by omega
      exact br_t (nI_le (a := 48) (b := 48) (Nat.le_refl _) (by decide)) (br_t rfl (H1 h))
    | succ d ih =>
      intro i hi h
      have ci : (nI i).toNatClampNeg = i := nI_clamp (by omega)
      refine br_f (nI_ge (b := 48) (by omega) (by decide)) ⟨vp_in_nI (by omega) (by decide), ?_⟩
      rw [ci]
      cases ht : et_th b_there i
      · exact br_t (et_th_f ht (by omega)) (H i (by omega) ht h)
      · refine br_f (et_th_ne ht) (nm_r (nI_1 i) (ih (i + 1) (by omega) (fun j hj => ?_)))
        by_cases y : j = i
        · rw [y]; exact ht
        · exact h j (by omega)
  exact ⟨49, L 48 0 (by omega) (fun j hj => by omega)⟩
theorem ey_add_84 {e s : Nat} {x1 x2 x3 : Int32} (he : e < 48) (hs : g_serial = nI s)
    (H : ∀ st rl, (∀ a, a < 6 → st (6 * e + a) = 0) → (∀ j a, j ≠ e → a < 6 → st (6 * j + a) = b_sets (6 * j + a)) → (∀ k, k < 24 → rl (24 * e + k) = -1) → (∀ j k, j ≠ e → k < 24 → rl (24 * j + k) = b_rules (24 * j + k)) → post (nI e) (g_tokens, nI (s + 1), upd b_there e 1, upd b_parent e x1, upd b_name e x2, upd b_alias e x3, upd b_serials e (nI (s + 1)), st, rl, b_kinds, b_attributes, b_numbers, b_stack, b_searched, b_gone, b_finds)) :
    wY_add_84 post x1 x2 x3 (nI e) g_tokens g_serial b_there b_parent b_name b_alias b_serials b_sets b_rules b_kinds b_attributes b_numbers b_stack b_searched b_gone b_finds :=
  br_f (fun z => by have := (nI_eq (b := 48) (by omega) (by decide)).mp z; omega) (ey_make he (fun st rl h1 h2 h3 h4 => ey_stamp he hs (H st rl h1 h2 h3 h4)))
theorem ey_add (hTr : et_Tr dp b_there b_parent) {p n : Nat} {x : Int32} (ns : ¬ g_serial = 1000000000) (hp : et_th b_there p = true) (hal : et_al b_there b_alias p = false) (hn : n < 100)
    (H1 : 0 ≤ et_fs (ea_p b_there b_parent b_name p (nI n)) 48 0 → post (-1) (g_tokens, g_serial, b_there, b_parent, b_name, b_alias, b_serials, b_sets, b_rules, b_kinds, b_attributes, b_numbers, b_stack, b_searched, b_gone, b_finds)) (H2 : ¬ 0 ≤ et_fs (ea_p b_there b_parent b_name p (nI n)) 48 0 → ¬ ea_A b_there x → post (-1) (g_tokens, g_serial, b_there, b_parent, b_name, b_alias, b_serials, b_sets, b_rules, b_kinds, b_attributes, b_numbers, b_stack, b_searched, b_gone, b_finds))
    (H3 : ¬ 0 ≤ et_fs (ea_p b_there b_parent b_name p (nI n)) 48 0 → ea_A b_there x → (∀ i, i < 48 → et_th b_there i = true) → post (-1) (g_tokens, g_serial, b_there, b_parent, b_name, b_alias, b_serials, b_sets, b_rules, b_kinds, b_attributes, b_numbers, b_stack, b_searched, b_gone, b_finds))
    (H : ¬ 0 ≤ et_fs (ea_p b_there b_parent b_name p (nI n)) 48 0 → ea_A b_there x → ∀ e, e < 48 → et_th b_there e = false → (∀ i, i < e → et_th b_there i = true) → wY_add_84 post (nI p) (nI n) x (nI e) g_tokens g_serial b_there b_parent b_name b_alias b_serials b_sets b_rules b_kinds b_attributes b_numbers b_stack b_searched b_gone b_finds) : wpY_add post (g_tokens, g_serial, b_there, b_parent, b_name, b_alias, b_serials, b_sets, b_rules, b_kinds, b_attributes, b_numbers, b_stack, b_searched, b_gone, b_finds) (nI p) (nI n) x := by
  unfold wpY_add
  refine br_f ns (ey_isThere_t hp (br_f em_10 (ey_isAlias hp ?_)))
  rw [hal]
  refine br_t rfl (ey_in_t (N := 100) hn (by decide) (br_f em_10 (ey_child hTr hp ?_)))
  refine br_c H1 (fun h0 => ?_)
  by_cases z : x = -1
  · exact br_t z (ey_add_61 (H3 h0 (Or.inl z)) (H h0 (Or.inl z)))
  · refine br_f z ?_
    by_cases y : et_T b_there x
    · obtain ⟨j, hj, rfl⟩ := y
      exact ey_isThere_t hj (br_f em_10 (ey_add_61 (H3 h0 (Or.inr ⟨j, hj, rfl⟩)) (H h0 (Or.inr ⟨j, hj, rfl⟩))))
    · exact ey_isThere_f y (br_t rfl (H2 h0 (fun w => w.elim z y)))
end
end
section
/-! the relation behind an add, fact by fact -/
section
variable {dp : Nat → Nat} {t q l nm : Nat → Int32} {e p : Nat}
theorem ea_Th {T b : Int64} (h : er_Th T t) (he : e < 48) (hb : ∀ i, eb_t b i = decide (i = e)) : er_Th (T ||| b) (upd t e 1) := by
  intro i
  rw [eb_or, hb, h i]
  by_cases z : i = e
  · rw [z, decide_eq_true rfl, Bool.or_true, et_th_us he em_10]
  · rw [decide_eq_false z, Bool.or_false, et_th_un z]
theorem ea_Und {und : Nat → Int64} {b : Int64} (h : er_Und t q und) (he : e < 48) (hn : et_th t e = false) (hp : p < 48) (hb : ∀ i, eb_t b i = decide (i = e)) : er_Und (upd t e 1) (upd q e (nI p)) (vp_updL und p (und p ||| b)) := by
  intro p' hp' j
  by_cases z : j = e
  · subst z
    rw [et_th_us he em_10, pk_us, Bool.true_and]
    by_cases y : p' = p
    · subst y
      rw [pk_uLs, eb_or, hb, decide_eq_true rfl, Bool.or_true, decide_eq_true rfl]
    · rw [pk_uLn y, h p' hp', hn, Bool.false_and, decide_eq_false (fun w => y ((nI_eq (by omega) (by omega)).mp w).symm)]
  · rw [et_th_un z, pk_un z]
    by_cases y : p' = p
    · subst y
      rw [pk_uLs, eb_or, hb, decide_eq_false z, Bool.or_false, h p' hp']
    · rw [pk_uLn y, h p' hp']
theorem ea_Bel0 {dp : Nat → Nat} {q : Nat → Int32} {bel bel' : Nat → Int64} {b : Int64} {p : Nat} (hc : ex_cs dp q bel bel' b 1 p) {a i : Nat} (hi : i < 64) : eb_t (bel' a) i = (eb_t (bel a) i || (et_U dp q p a && eb_t b i)) := by
  rw [hc a i hi]
  cases et_U dp q p a
  · rw [if_neg (by decide), Bool.false_and, Bool.or_false]
  · rw [if_pos rfl, if_neg em_10, Bool.true_and]
theorem ea_Bel (hTr : et_Tr dp t q) {bel bel' : Nat → Int64} {b : Int64} (h : er_Bel dp t q bel) (he : e < 48) (hn : et_th t e = false) (hp : et_th t p = true) (hb : ∀ i, eb_t b i = decide (i = e)) (hc : ex_cs dp q bel bel' b 1 p) :
    er_Bel (et_dpu dp e (dp p + 1)) (upd t e 1) (upd q e (nI p)) bel' := by
  intro a ha j
  have B := et_add_B hTr he hn hp em_10
  rcases Nat.lt_or_ge j 64 with y | y
  · rw [ea_Bel0 hc y, h a ha j, hb]
    by_cases z : j = e
    · rw [z, et_th_us he em_10, B.2, hn, decide_eq_true (rfl : e = e), Bool.false_and, Bool.false_or, Bool.and_true, Bool.true_and]
    · rw [et_th_un z, decide_eq_false z, Bool.and_false, Bool.or_false]
      cases w : et_th t j
      · rw [Bool.false_and, Bool.false_and]
      · rw [B.1 j w]
  · rw [eb_big y, et_th_big (by omega), Bool.false_and]
theorem ea_AlY (hTr : et_Tr dp t q) {x : Int32} (h : er_AlY t q l) (he : e < 48) (hn : et_th t e = false) (hp : et_th t p = true) (hal : et_al t l p = false) (hx : ea_A t x) : er_AlY (upd t e 1) (upd q e (nI p)) (upd l e x) := by
  have e0 : e ≠ 0 := fun z => by rw [z, hTr.1] at hn; cases hn
  have ne : ∀ j, et_th t j = true → j ≠ e := fun j hj z => by rw [z, hn] at hj; cases hj
  refine ⟨by rw [pk_un (Ne.symm e0)]; exact h.1, fun i hi => ?_, fun i hi h0 => ?_⟩
  · by_cases z : i = e
    · subst z
      rw [pk_us]
      have := et_al_ne hi
      rw [pk_us] at this
      rcases hx with hx | ⟨j, hj, hx⟩
      · exact absurd hx this
      · exact Or.inr ⟨j, by rw [et_th_un (ne j hj)]; exact hj, hx⟩
    · rw [pk_un z]
      have : et_al t l i = true := by
        unfold et_al at hi ⊢
        rw [et_th_un z, pk_un z] at hi
        exact hi
      rcases h.2.1 i this with y | ⟨j, hj, y⟩
      · exact Or.inl y
      · exact Or.inr ⟨j, by rw [et_th_un (ne j hj)]; exact hj, y⟩
  · by_cases z : i = e
    · subst z
      rw [et_pa_u (et_th_lt hp), pk_un (ne p hp)]
      exact et_al_f hp hal
    · rw [et_th_un z] at hi
      rw [et_pa_n z, pk_un (ne _ (hTr.2.2.2 i hi h0).2.1)]
      exact h.2.2 i hi h0
theorem ea_Ali {A A' : Int64} {al : Nat → Int32} {x : Int32} (h : er_Ali t l A al) (he : e < 48) (hn : et_th t e = false) (hA : ∀ i, eb_t A' i = (eb_t A i || (!decide (x = -1) && decide (i = e)))) : er_Ali (upd t e 1) (upd l e x) A' (upd al e x) := by
  have E : ∀ i, i ≠ e → et_al (upd t e 1) (upd l e x) i = et_al t l i := fun i z => by
    unfold et_al; rw [et_th_un z, pk_un z]
  refine ⟨fun i => ?_, fun i hi => ?_⟩
  · rw [hA, h.1]
    by_cases z : i = e
    · subst z
      unfold et_al
      rw [hn, et_th_us he em_10, pk_us, decide_eq_true rfl, Bool.and_true]; rfl
    · rw [E i z, decide_eq_false z, Bool.and_false, Bool.or_false]
  · by_cases z : i = e
    · rw [z, pk_us, pk_us]
    · rw [E i z] at hi
      rw [pk_un z, pk_un z]; exact h.2 i hi
theorem ea_Hav {sets st : Nat → Int32} {hav : Nat → Int64} (h : er_Hav t sets hav) (he : e < 48) (hn : et_th t e = false) (h1 : ∀ a, a < 6 → st (6 * e + a) = 0) (h2 : ∀ j a, j ≠ e → a < 6 → st (6 * j + a) = sets (6 * j + a)) : er_Hav (upd t e 1) st hav := by
  intro a ha v hv j
  rw [h a ha v hv j]
  by_cases z : j = e
  · subst z; rw [hn, h1 a ha, b_0, Bool.and_false]; rfl
  · rw [et_th_un z, h2 j a z ha]
theorem ea_Set {sets st : Nat → Int32} (h : er_Set t sets) (h1 : ∀ a, a < 6 → st (6 * e + a) = 0) (h2 : ∀ j a, j ≠ e → a < 6 → st (6 * j + a) = sets (6 * j + a)) : er_Set (upd t e 1) st := by
  intro j hj a ha v hv
  by_cases z : j = e
  · subst z; rw [h1 a ha, b_0]
  · rw [et_th_un z] at hj
    rw [h2 j a z ha]; exact h j hj a ha v hv
theorem ea_Rul {ru rl : Nat → Int32} {yes no : Nat → Int64} (h : er_Rul t ru yes no) (he : e < 48) (hn : et_th t e = false) (h3 : ∀ k, k < 24 → rl (24 * e + k) = -1) (h4 : ∀ j k, j ≠ e → k < 24 → rl (24 * j + k) = ru (24 * j + k)) : er_Rul (upd t e 1) rl yes no := by
  intro k hk j
  by_cases z : j = e
  · subst z
    obtain ⟨a, b, _⟩ := h k hk j
    rw [a, b, hn, h3 k hk, et_th_us he em_10]
    exact ⟨(by decide : false = (true && decide ((-1 : Int32) = 1))), (by decide : false = (true && decide ((-1 : Int32) = 0))), fun _ => Or.inl rfl⟩
  · rw [et_th_un z, h4 j k z hk]; exact h k hk j
end
end
section
theorem i_vc_add {k : Nat} {u : SX} {v : SY} (I : i_Rel k u v) (hk : k + 5 ≤ 2560) (v1 : Int32) (v2 : Int32) (v3 : Int32) : wpX_add (fun r u' => wpY_add (fun r' v' => r' = r ∧ i_Rel (k + 5) u' v') v v1 v2 v3) u v1 v2 v3 := by
  refine er_el (P := fun u v => wpX_add (fun r u' => wpY_add (fun r' v' => r' = r ∧ i_Rel (k + 5) u' v') v v1 v2 v3) u v1 v2 v3) ?_ I
  intro f_there f_isAlias f_serial f_tokens f_found a_parents a_names a_aliases a_serials a_under a_below a_having a_any a_yes a_no a_open a_known a_kinds a_attributes a_values a_isTrue a_isFalse g_tokens g_serial b_there b_parent b_name b_alias b_serials b_sets b_rules b_kinds b_attributes b_numbers b_stack b_searched b_gone b_finds dp I
  have J : i_Rel (k + 5) (f_there, f_isAlias, f_serial, f_tokens, f_found, a_parents, a_names, a_aliases, a_serials, a_under, a_below, a_having, a_any, a_yes, a_no, a_open, a_known, a_kinds, a_attributes, a_values, a_isTrue, a_isFalse) (g_tokens, g_serial, b_there, b_parent, b_name, b_alias, b_serials, b_sets, b_rules, b_kinds, b_attributes, b_numbers, b_stack, b_searched, b_gone, b_finds) := ⟨dp, er_up (by omega) I⟩
  obtain ⟨hTh, hTr, hPar, hNam, hAli, hAlY, hUnd, hBel, hHav, hAny, hSet, hRul, hOpn, hTok, hSer, hFnd⟩ := I
  obtain ⟨ns, ns'⟩ := er_Ser_ne hk hSer
  by_cases h1 : et_T b_there v1
  · obtain ⟨p, hp, rfl⟩ := h1
    have lt := et_th_lt hp
    cases hal : et_al b_there b_alias p
    · by_cases h2 : em_I 100 v2
      · obtain ⟨n, hn, rfl⟩ := h2
        have X : ∀ {P : Int32 → SX → Prop}, (¬ ea_A b_there v3 → P (-1) (f_there, f_isAlias, f_serial, f_tokens, f_found, a_parents, a_names, a_aliases, a_serials, a_under, a_below, a_having, a_any, a_yes, a_no, a_open, a_known, a_kinds, a_attributes, a_values, a_isTrue, a_isFalse)) → (ea_A b_there v3 → wX_add_43 P (nI p) (nI n) v3 f_there f_isAlias f_serial f_tokens f_found a_parents a_names a_aliases a_serials a_under a_below a_having a_any a_yes a_no a_open a_known a_kinds a_attributes a_values a_isTrue a_isFalse) → wpX_add P (f_there, f_isAlias, f_serial, f_tokens, f_found, a_parents, a_names, a_aliases, a_serials, a_under, a_below, a_having, a_any, a_yes, a_no, a_open, a_known, a_kinds, a_attributes, a_values, a_isTrue, a_isFalse) (nI p) (nI n) v3 := by
          intro P g1 g2
          unfold wpX_add
          refine ex_isThere_t hTh hp (br_f em_10 (br_t (eb_shr0 ((hAli.1 p).trans hal) (by omega)) (ex_in_t (N := 100) hn (by decide) (br_f em_10 ?_))))
          by_cases z : v3 = -1
          · exact br_t z (g2 (Or.inl z))
          · refine br_f z ?_
            by_cases y : et_T b_there v3
            · obtain ⟨j, hj, rfl⟩ := y
              exact ex_isThere_t hTh hj (br_f em_10 (g2 (Or.inr ⟨j, hj, rfl⟩)))
            · exact ex_isThere_f hTh y (br_t rfl (g1 (fun w => w.elim z y)))
        refine X (fun hA => ?_) (fun hA => ?_)
        · exact ey_add hTr ns' hp hal hn (fun _ => ⟨rfl, J⟩) (fun _ _ => ⟨rfl, J⟩) (fun _ w => absurd w hA) (fun _ w => absurd w hA)
        · obtain ⟨s, hs, s1, s2, s3, q1, q2⟩ := hSer
          refine ex_add_43 hTh hTr hPar hUnd hNam hp (em_byte (by omega)) hA s1 ns (fun hf => ?_) (fun hf h0 => ?_) (fun e A b bel kn he hne hle h0 hb hA' hbel hkn => ?_)
          · refine ey_add hTr ns' hp hal hn (fun _ => ⟨rfl, J⟩) (fun _ _ => ⟨rfl, J⟩) (fun _ _ _ => ⟨rfl, J⟩) (fun _ _ e he hne => ?_)
            rw [hf e he] at hne; cases hne
          · exact ey_add hTr ns' hp hal hn (fun _ => ⟨rfl, J⟩) (fun w => absurd h0 w) (fun w => absurd h0 w) (fun w => absurd h0 w)
          · refine ey_add hTr ns' hp hal hn (fun w => absurd w h0) (fun _ w => absurd hA w) (fun _ _ hf => ?_) (fun _ _ e' he' hne' hle' => ?_)
            · rw [hf e he] at hne; cases hne
            · have ee : e' = e := by
                rcases Nat.lt_trichotomy e' e with y | y | y
                · rw [hle e' y] at hne'; cases hne'
                · exact y
                · rw [hle' e y] at hne; cases hne
              subst ee
              refine ey_add_84 he s2 (fun st rl g1 g2 g3 g4 => ⟨rfl, et_dpu dp e' (dp p + 1), ?_⟩)
              have e0 : e' ≠ 0 := fun z => by rw [z, hTr.1] at hne; cases hne
              rw [s3]
              refine ⟨ea_Th hTh he hb, et_add_Tr hTr he hne hp em_10, fun i hi => ?_, ⟨by rw [pk_un (Ne.symm e0)]; exact hNam.1, fun i hi h0 => ?_⟩, ea_Ali hAli he hne hA', ea_AlY hTr hAlY he hne hp hal hA, ea_Und hUnd he hne lt hb, ea_Bel hTr hBel he hne hp hb hbel, ea_Hav hHav he hne g1 g2, hAny, ea_Set hSet g1 g2, ea_Rul hRul he hne g3 g4, fun k' hk' w => absurd (hkn k' hk') w, hTok, er_Ser_st hs hk q1 q2 (fun i z h => by rw [et_th_un z] at h; exact h), hFnd⟩
              · by_cases z : i = e'
                · rw [z, pk_us, pk_us]
                · rw [et_th_un z] at hi; rw [pk_un z, pk_un z]; exact hPar i hi
              · by_cases z : i = e'
                · rw [z, pk_us, pk_us]
                · rw [et_th_un z] at hi; rw [pk_un z, pk_un z]; exact hNam.2 i hi h0
      · unfold wpX_add
        refine ex_isThere_t hTh hp (br_f em_10 (br_t (eb_shr0 ((hAli.1 p).trans hal) (by omega)) (ex_in_f (N := 100) (by decide) h2 (br_t rfl ?_))))
        unfold wpY_add
        refine br_f ns' (ey_isThere_t hp (br_f em_10 (ey_isAlias hp ?_)))
        rw [hal]
        exact br_t rfl (ey_in_f (N := 100) (by decide) h2 (br_t rfl ⟨rfl, J⟩))
    · unfold wpX_add
      refine ex_isThere_t hTh hp (br_f em_10 (br_f (eb_shr1 ((hAli.1 p).trans hal)) ?_))
      unfold wpY_add
      refine br_f ns' (ey_isThere_t hp (br_f em_10 (ey_isAlias hp ?_)))
      rw [hal]
      exact br_f em_10 ⟨rfl, J⟩
  · unfold wpX_add
    refine ex_isThere_f hTh h1 (br_t rfl ?_)
    unfold wpY_add
    exact br_f ns' (ey_isThere_f h1 (br_t rfl ⟨rfl, J⟩))
end
section
/-! ===== remove ===== -/
section
variable {f_there f_isAlias f_found : Int64} {f_serial f_tokens : Int32} {a_parents a_names a_aliases a_serials a_known a_kinds a_attributes a_values : Nat → Int32} {a_under a_below a_having a_any a_yes a_no a_open a_isTrue a_isFalse : Nat → Int64}
variable {post : Int32 → SX → Prop}
theorem ex_rem_192 {e s : Nat} (hs : f_serial = nI s) {a0 : Nat → Int32}
    (H : ∀ al : Nat → Int32, (∀ j, j < 48 → al j = if eb_t f_isAlias j = true ∧ a0 j = nI e then -2 else a0 j) → post 1 (f_there, f_isAlias, nI (s + 1), f_tokens, f_found, a_parents, a_names, al, a_serials, a_under, a_below, a_having, a_any, a_yes, a_no, a_open, a_known, a_kinds, a_attributes, a_values, a_isTrue, a_isFalse)) :
    ∀ d i al, i + d = 48 → (∀ j, j < 48 → al j = if j < i ∧ eb_t f_isAlias j = true ∧ a0 j = nI e then -2 else a0 j) → wX_remove_192 post (nI e) f_there f_isAlias f_serial f_tokens f_found (d + 1) (nI i) a_parents a_names al a_serials a_under a_below a_having a_any a_yes a_no a_open a_known a_kinds a_attributes a_values a_isTrue a_isFalse := by
  intro d
  induction d with
  | zero =>
    intro i al hi h
    obtain rfl : i = 48 := by omega
    refine br_t (nI_le (a := 48) (b := 48) (Nat.le_refl _) (by decide)) (nm_r (e' := nI (s + 1)) (by rw [hs, nI_1]) (H al (fun j hj => ?_)))
    rw [h j hj]
    by_cases z : eb_t f_isAlias j = true ∧ a0 j = nI e
    · rw [if_pos ⟨hj, z⟩, if_pos z]
    · rw [if_neg (fun w => z w.2), if_neg z]
  | succ d ih =>
    intro i al hi h
    have ci : (nI i).toNatClampNeg = i := nI_clamp (by omega)
    have vi : vp_in (nI i) 48 := vp_in_nI (by omega) (by decide)
    have hi0 := h i (by omega)
    rw [if_neg (fun w => Nat.lt_irrefl i w.1)] at hi0
    have N : ¬ (eb_t f_isAlias i = true ∧ a0 i = nI e) → ∀ j, j < 48 → al j = if j < i + 1 ∧ eb_t f_isAlias j = true ∧ a0 j = nI e then -2 else a0 j := by
      intro hn j hj
      rw [h j hj]
      by_cases z : j < i ∧ eb_t f_isAlias j = true ∧ a0 j = nI e
      · rw [if_pos z, if_pos ⟨by omega, z.2⟩]
      · rw [if_neg z, if_neg]
        rintro ⟨w1, w2⟩
        by_cases y : j = i
        · rw [y] at w2; exact hn w2
        · exact z ⟨by omega, w2⟩
    refine br_f (nI_ge (b := 48) (by omega) (by decide)) ?_
    cases ha : eb_t f_isAlias i
    · exact br_t (eb_shr0 ha (by omega)) (nm_r (nI_1 i) (ih (i + 1) al (by omega) (N (fun w => by rw [ha] at w; exact absurd w.1 (by decide)))))
    · refine br_f (eb_shr1 ha) ⟨vi, ?_⟩
      rw [ci]
      by_cases z : al i = nI e
      · refine br_t z ⟨vi, nm_r (e' := upd al i (-2)) rfl (nm_r (nI_1 i) (ih (i + 1) _ (by omega) (fun j hj => ?_)))⟩
        by_cases y : j = i
        · subst y
          rw [pk_us, if_pos ⟨Nat.lt_succ_self j, ha, by rw [← hi0]; exact z⟩]
        · rw [pk_un y, h j hj]
          by_cases w : j < i ∧ eb_t f_isAlias j = true ∧ a0 j = nI e
          · rw [if_pos w, if_pos ⟨by omega, w.2⟩]
          · rw [if_neg w, if_neg (fun x => w ⟨by omega, x.2⟩)]
      · exact br_f z (nm_r (nI_1 i) (ih (i + 1) al (by omega) (N (fun w => z (hi0.trans w.2)))))
/-- the first i of an array cut by r -/
def ex_ct (a0 a : Nat → Int64) (r : Int64) (i : Nat) : Prop := ∀ j, a j = if j < i then a0 j &&& r else a0 j
theorem ex_ct_0 (a : Nat → Int64) (r : Int64) : ex_ct a a r 0 := fun j => (if_neg (Nat.not_lt_zero j)).symm
theorem ex_ct_s {a0 a : Nat → Int64} {r : Int64} {i : Nat} (h : ex_ct a0 a r i) : ex_ct a0 (vp_updL a i (a i &&& r)) r (i + 1) := by
  intro j
  by_cases y : j = i
  · subst y
    rw [pk_uLs, if_pos (Nat.lt_succ_self j), h j, if_neg (Nat.lt_irrefl j)]
  · rw [pk_uLn y, h j]
    by_cases z : j < i
    · rw [if_pos z, if_pos (by omega)]
    · rw [if_neg z, if_neg (by omega)]
theorem ex_rem_154 {e s : Nat} {r : Int64} (hs : f_serial = nI s) {y0 n0 : Nat → Int64}
    (H : ∀ (al : Nat → Int32) ye nn, (∀ j, j < 48 → al j = if eb_t f_isAlias j = true ∧ a_aliases j = nI e then -2 else a_aliases j) → ex_ct y0 ye r 24 → ex_ct n0 nn r 24 → post 1 (f_there, f_isAlias, nI (s + 1), f_tokens, f_found, a_parents, a_names, al, a_serials, a_under, a_below, a_having, a_any, ye, nn, a_open, a_known, a_kinds, a_attributes, a_values, a_isTrue, a_isFalse)) :
    ∀ d i ye nn, i + d = 24 → ex_ct y0 ye r i → ex_ct n0 nn r i → wX_remove_154 post (nI e) r f_there f_isAlias f_serial f_tokens f_found (d + 1) (nI i) a_parents a_names a_aliases a_serials a_under a_below a_having a_any ye nn a_open a_known a_kinds a_attributes a_values a_isTrue a_isFalse := by
  intro d
  induction d with
  | zero =>
    intro i ye nn hi h1 h2
    obtain rfl : i = 24 := by omega
    exact br_t (nI_le (a := 24) (b := 24) (Nat.le_refl _) (by decide)) ⟨49, ex_rem_192 (a0 := a_aliases) hs (fun al hal => H al ye nn hal h1 h2) 48 0 a_aliases (by omega) (fun j hj => by rw [if_neg (fun w => Nat.not_lt_zero j w.1)])⟩
  | succ d ih =>
    intro i ye nn hi h1 h2
    have ci : (nI i).toNatClampNeg = i := nI_clamp (by omega)
    have vi : vp_in (nI i) 24 := vp_in_nI (by omega) (by decide)
    exact br_f (nI_ge (b := 24) (by omega) (by decide)) ⟨vi, vi, nm_r (e' := vp_updL ye i (ye i &&& r)) (by rw [ci]) ⟨vi, vi, nm_r (e' := vp_updL nn i (nn i &&& r)) (by rw [ci]) (nm_r (nI_1 i) (ih (i + 1) _ _ (by omega) (ex_ct_s h1) (ex_ct_s h2)))⟩⟩
theorem ex_rem_127 {e s : Nat} {r : Int64} (hs : f_serial = nI s) {y0 : Nat → Int64}
    (H : ∀ (al : Nat → Int32) an ye nn, (∀ j, j < 48 → al j = if eb_t f_isAlias j = true ∧ a_aliases j = nI e then -2 else a_aliases j) → ex_ct y0 an r 6 → ex_ct a_yes ye r 24 → ex_ct a_no nn r 24 → post 1 (f_there, f_isAlias, nI (s + 1), f_tokens, f_found, a_parents, a_names, al, a_serials, a_under, a_below, a_having, an, ye, nn, a_open, a_known, a_kinds, a_attributes, a_values, a_isTrue, a_isFalse)) :
    ∀ d i an, i + d = 6 → ex_ct y0 an r i → wX_remove_127 post (nI e) r f_there f_isAlias f_serial f_tokens f_found (d + 1) (nI i) a_parents a_names a_aliases a_serials a_under a_below a_having an a_yes a_no a_open a_known a_kinds a_attributes a_values a_isTrue a_isFalse := by
  intro d
  induction d with
  | zero =>
    intro i an hi h1
    obtain rfl : i = 6 := by omega
    exact br_t (nI_le (a := 6) (b := 6) (Nat.le_refl _) (by decide)) ⟨25, ex_rem_154 (y0 := a_yes) (n0 := a_no) hs (fun al ye nn hal h2 h3 => H al an ye nn hal h1 h2 h3) 24 0 a_yes a_no (by omega) (ex_ct_0 _ _) (ex_ct_0 _ _)⟩
  | succ d ih =>
    intro i an hi h1
    have ci : (nI i).toNatClampNeg = i := nI_clamp (by omega)
    have vi : vp_in (nI i) 6 := vp_in_nI (by omega) (by decide)
    exact br_f (nI_ge (b := 6) (by omega) (by decide)) ⟨vi, vi, nm_r (e' := vp_updL an i (an i &&& r)) (by rw [ci]) (nm_r (nI_1 i) (ih (i + 1) _ (by omega) (ex_ct_s h1)))⟩
theorem ex_rem_100 {e s : Nat} {r : Int64} (hs : f_serial = nI s) {y0 : Nat → Int64}
    (H : ∀ (al : Nat → Int32) hv an ye nn, (∀ j, j < 48 → al j = if eb_t f_isAlias j = true ∧ a_aliases j = nI e then -2 else a_aliases j) → ex_ct y0 hv r 96 → ex_ct a_any an r 6 → ex_ct a_yes ye r 24 → ex_ct a_no nn r 24 → post 1 (f_there, f_isAlias, nI (s + 1), f_tokens, f_found, a_parents, a_names, al, a_serials, a_under, a_below, hv, an, ye, nn, a_open, a_known, a_kinds, a_attributes, a_values, a_isTrue, a_isFalse)) :
    ∀ d i hv, i + d = 96 → ex_ct y0 hv r i → wX_remove_100 post (nI e) r f_there f_isAlias f_serial f_tokens f_found (d + 1) (nI i) a_parents a_names a_aliases a_serials a_under a_below hv a_any a_yes a_no a_open a_known a_kinds a_attributes a_values a_isTrue a_isFalse := by
  intro d
  induction d with
  | zero =>
    intro i hv hi h1
    obtain rfl : i = 96 := by omega
    exact br_t (nI_le (a := 96) (b := 96) (Nat.le_refl _) (by decide)) ⟨7, ex_rem_127 (y0 := a_any) hs (fun al an ye nn hal h2 h3 h4 => H al hv an ye nn hal h1 h2 h3 h4) 6 0 a_any (by omega) (ex_ct_0 _ _)⟩
  | succ d ih =>
    intro i hv hi h1
    have ci : (nI i).toNatClampNeg = i := nI_clamp (by omega)
    have vi : vp_in (nI i) 96 := vp_in_nI (by omega) (by decide)
    exact br_f (nI_ge (b := 96) (by omega) (by decide)) ⟨vi, vi, nm_r (e' := vp_updL hv i (hv i &&& r)) (by rw [ci]) (nm_r (nI_1 i) (ih (i + 1) _ (by omega) (ex_ct_s h1)))⟩
end
section
variable {g_tokens g_serial : Int32} {b_there b_parent b_name b_alias b_serials b_sets b_rules b_kinds b_attributes b_numbers b_stack b_searched b_gone b_finds : Nat → Int32}
variable {post : Int32 → SY → Prop}
theorem ey_rem_40 {e s : Nat} (hs : g_serial = nI s) {a0 : Nat → Int32}
    (H : ∀ al : Nat → Int32, (∀ j, j < 48 → al j = if et_th b_there j = true ∧ a0 j = nI e then -2 else a0 j) → post 1 (g_tokens, nI (s + 1), b_there, b_parent, b_name, al, b_serials, b_sets, b_rules, b_kinds, b_attributes, b_numbers, b_stack, b_searched, b_gone, b_finds)) :
    ∀ d i al, i + d = 48 → (∀ j, j < 48 → al j = if j < i ∧ et_th b_there j = true ∧ a0 j = nI e then -2 else a0 j) → wY_remove_40 post (nI e) g_tokens g_serial (d + 1) (nI i) b_there b_parent b_name al b_serials b_sets b_rules b_kinds b_attributes b_numbers b_stack b_searched b_gone b_finds := by
  intro d
  induction d with
  | zero =>
    intro i al hi h
    obtain rfl : i = 48 := by omega
    refine br_t (nI_le (a := 48) (b := 48) (Nat.le_refl _) (by decide)) (nm_r (e' := nI (s + 1)) (by rw [hs, nI_1]) (H al (fun j hj => ?_)))
    rw [h j hj]
    by_cases z : et_th b_there j = true ∧ a0 j = nI e
    · rw [if_pos ⟨hj, z⟩, if_pos z]
    · rw [if_neg (fun w => z w.2), if_neg z]
  | succ d ih =>
    intro i al hi h
    have ci : (nI i).toNatClampNeg = i := nI_clamp (by omega)
    have vi : vp_in (nI i) 48 := vp_in_nI (by omega) (by decide)
    have hi0 := h i (by omega)
    rw [if_neg (fun w => Nat.lt_irrefl i w.1)] at hi0
    have N : ¬ (et_th b_there i = true ∧ a0 i = nI e) → ∀ j, j < 48 → al j = if j < i + 1 ∧ et_th b_there j = true ∧ a0 j = nI e then -2 else a0 j := by
      intro hn j hj
      rw [h j hj]
      by_cases z : j < i ∧ et_th b_there j = true ∧ a0 j = nI e
      · rw [if_pos z, if_pos ⟨by omega, z.2⟩]
      · rw [if_neg z, if_neg]
        rintro ⟨w1, w2⟩
        by_cases y : j = i
        · rw [y] at w2; exact hn w2
        · exact z ⟨by omega, w2⟩
    refine br_f (nI_ge (b := 48) (by omega) (by decide)) ⟨vi, ?_⟩
    rw [ci]
    cases ha : et_th b_there i
    · exact br_t (et_th_f ha (by omega)) (nm_r (nI_1 i) (ih (i + 1) al (by omega) (N (fun w => by rw [ha] at w; exact absurd w.1 (by decide)))))
    · refine br_f (et_th_ne ha) ⟨vi, ?_⟩
      by_cases z : al i = nI e
      · refine br_t z ⟨vi, nm_r (e' := upd al i (-2)) rfl (nm_r (nI_1 i) (ih (i + 1) _ (by omega) (fun j hj => ?_)))⟩
        by_cases y : j = i
        · subst y
          rw [pk_us, if_pos ⟨Nat.lt_succ_self j, ha, by rw [← hi0]; exact z⟩]
        · rw [pk_un y, h j hj]
          by_cases w : j < i ∧ et_th b_there j = true ∧ a0 j = nI e
          · rw [if_pos w, if_pos ⟨by omega, w.2⟩]
          · rw [if_neg w, if_neg (fun x => w ⟨by omega, x.2⟩)]
      · exact br_f z (nm_r (nI_1 i) (ih (i + 1) al (by omega) (N (fun w => z (hi0.trans w.2)))))
end
/-! the relation behind a removal, fact by fact; r has all bits but e -/
section
variable {dp : Nat → Nat} {t q l : Nat → Int32} {e : Nat} {r : Int64}
theorem eq_ct {a0 a : Nat → Int64} {n j i : Nat} (h : ex_ct a0 a r n) (hr : ∀ i, i < 64 → eb_t r i = !decide (i = e)) (hj : j < n) : eb_t (a j) i = (eb_t (a0 j) i && !decide (i = e)) := by
  rw [h j, if_pos hj, eb_and]
  rcases Nat.lt_or_ge i 64 with y | y
  · rw [hr i y]
  · rw [eb_big y, Bool.false_and, Bool.false_and]
theorem eq_and {x : Int64} {i : Nat} (hr : ∀ i, i < 64 → eb_t r i = !decide (i = e)) : eb_t (x &&& r) i = (eb_t x i && !decide (i = e)) := by
  rw [eb_and]
  rcases Nat.lt_or_ge i 64 with y | y
  · rw [hr i y]
  · rw [eb_big y, Bool.false_and, Bool.false_and]
theorem eq_th (i : Nat) : et_th (upd t e 0) i = (et_th t i && !decide (i = e)) := by
  by_cases z : i = e
  · rw [z, et_th_u0, decide_eq_true rfl, Bool.not_true, Bool.and_false]
  · rw [et_th_un z, decide_eq_false z, Bool.not_false, Bool.and_true]
theorem eq_thi {i : Nat} (h : et_th (upd t e 0) i = true) : et_th t i = true ∧ i ≠ e := by
  rw [eq_th, Bool.and_eq_true] at h
  refine ⟨h.1, fun z => ?_⟩
  rw [decide_eq_true z] at h
  exact absurd h.2 (by decide)
theorem eq_ac (a b c : Bool) : (a && b && c) = (a && c && b) := by cases a <;> cases b <;> cases c <;> rfl
theorem eq_Und (hTr : et_Tr dp t q) {und : Nat → Int64} (h : er_Und t q und) (he : et_th t e = true) (e0 : e ≠ 0) (hr : ∀ i, i < 64 → eb_t r i = !decide (i = e)) : er_Und (upd t e 0) q (vp_updL und (et_pa q e) (und (et_pa q e) &&& r)) := by
  intro p hp j
  rw [eq_th]
  by_cases y : p = et_pa q e
  · rw [← y, pk_uLs, eq_and hr, h p hp, eq_ac]
  · rw [pk_uLn y, h p hp, eq_ac]
    by_cases z : j = e
    · subst z
      rw [decide_eq_false (fun w => y ((et_q_iff hTr he hp).mp w).2.symm), Bool.and_false, Bool.false_and]
    · rw [decide_eq_false z, Bool.not_false, Bool.and_true]
theorem eq_Bel0 {bel bel' : Nat → Int64} {b : Int64} {p : Nat} (hc : ex_cs dp q bel bel' b 0 p) {a i : Nat} (hi : i < 64) : eb_t (bel' a) i = (eb_t (bel a) i && !(et_U dp q p a && eb_t b i)) := by
  rw [hc a i hi]
  cases et_U dp q p a
  · rw [if_neg (by decide), Bool.false_and, Bool.not_false, Bool.and_true]
  · rw [if_pos rfl, if_pos rfl, Bool.true_and]
theorem eq_Bel (hTr : et_Tr dp t q) {bel bel' : Nat → Int64} {b : Int64} (h : er_Bel dp t q bel) (he : et_th t e = true) (e0 : e ≠ 0) (hb : ∀ i, eb_t b i = decide (i = e)) (hc : ex_cs dp q bel bel' b 0 (et_pa q e)) : er_Bel dp (upd t e 0) q bel' := by
  intro a ha j
  rcases Nat.lt_or_ge j 64 with y | y
  · rw [eq_Bel0 hc y, h a ha j, hb, eq_th, ← et_B_U hTr he e0]
    by_cases z : j = e
    · rw [z, decide_eq_true (rfl : e = e), Bool.and_true, Bool.not_true, Bool.and_false, Bool.false_and, Bool.and_assoc, Bool.and_not_self, Bool.and_false]
    · rw [decide_eq_false z, Bool.and_false, Bool.not_false, Bool.and_true, Bool.and_true]
  · rw [eb_big y, et_th_big (by omega), Bool.false_and]
theorem eq_Ali {A : Int64} {al al' l' : Nat → Int32} (h : er_Ali t l A al) (he : e < 48) (hr : ∀ i, i < 64 → eb_t r i = !decide (i = e)) (h1 : ∀ j, j < 48 → al' j = if eb_t (A &&& r) j = true ∧ al j = nI e then -2 else al j)
    (h2 : ∀ j, j < 48 → l' j = if et_th (upd t e 0) j = true ∧ l j = nI e then -2 else l j) : (∀ i, et_al (upd t e 0) l' i = (et_al t l i && !decide (i = e))) ∧ er_Ali (upd t e 0) l' (A &&& r) al' := by
  have E : ∀ i, et_al (upd t e 0) l' i = (et_al t l i && !decide (i = e)) := by
    intro i
    unfold et_al
    cases w : et_th (upd t e 0) i
    · rw [eq_th] at w
      rw [Bool.false_and, eq_ac, w, Bool.false_and]
    · obtain ⟨w1, w2⟩ := eq_thi w
      rw [w1, decide_eq_false w2, Bool.true_and, Bool.true_and, Bool.not_false, Bool.and_true, h2 i (et_th_lt w1), w]
      by_cases z : l i = nI e
      · rw [if_pos ⟨rfl, z⟩, z, decide_eq_false (em_nIm1 (by omega))]; rfl
      · rw [if_neg (fun y => z y.2)]
  refine ⟨E, fun i => ?_, fun i hi => ?_⟩
  · rw [E, eq_and hr, h.1]
  · have hth := et_al_th hi
    have lt := et_th_lt hth
    have hi' := hi
    rw [E, Bool.and_eq_true] at hi'
    rw [h1 i lt, h2 i lt, h.2 i hi'.1, eq_and hr, h.1, ← E, hi, hth]
theorem eq_AlY (hTr : et_Tr dp t q) {l' : Nat → Int32} (h : er_AlY t q l) (he : e < 48) (hE : ∀ i, et_al (upd t e 0) l' i = (et_al t l i && !decide (i = e))) (h2 : ∀ j, j < 48 → l' j = if et_th (upd t e 0) j = true ∧ l j = nI e then -2 else l j) : er_AlY (upd t e 0) q l' := by
  have K : ∀ j, j < 48 → l j = -1 → l' j = -1 := by
    intro j hj z
    rw [h2 j hj, z, if_neg (fun w => em_nIm1 (j := e) (by omega) w.2.symm)]
  refine ⟨K 0 (by decide) h.1, fun i hi => ?_, fun i hi h0 => ?_⟩
  · have hi' := hi
    rw [hE, Bool.and_eq_true] at hi'
    have hth := et_al_th hi
    rw [h2 i (et_th_lt hth), hth]
    by_cases z : l i = nI e
    · rw [if_pos ⟨rfl, z⟩]; exact Or.inl rfl
    · rw [if_neg (fun y => z y.2)]
      rcases h.2.1 i hi'.1 with y | ⟨j, hj, y⟩
      · exact Or.inl y
      · exact Or.inr ⟨j, by rw [et_th_un (fun w => z (by rw [y, w]))]; exact hj, y⟩
  · obtain ⟨w1, w2⟩ := eq_thi hi
    exact K _ (et_pa_lt hTr w1 h0) (h.2.2 i w1 h0)
theorem eq_Hav {sets : Nat → Int32} {hav hv : Nat → Int64} (h : er_Hav t sets hav) (hr : ∀ i, i < 64 → eb_t r i = !decide (i = e)) (h1 : ex_ct hav hv r 96) : er_Hav (upd t e 0) sets hv := by
  intro a ha v hv' j
  rw [eq_ct h1 hr (by omega), h a ha v hv' j, eq_th, eq_ac]
theorem eq_Any {hav hv any an : Nat → Int64} (h : er_Any hav any) (hr : ∀ i, i < 64 → eb_t r i = !decide (i = e)) (h1 : ex_ct hav hv r 96) (h2 : ex_ct any an r 6) : er_Any hv an := by
  intro a ha j
  rw [eq_ct h2 hr ha, Bool.and_eq_true, h a ha j]
  constructor
  · rintro ⟨⟨v, y, z⟩, w⟩
    exact ⟨v, y, by rw [eq_ct h1 hr (by omega), z, w]; rfl⟩
  · rintro ⟨v, y, z⟩
    rw [eq_ct h1 hr (by omega), Bool.and_eq_true] at z
    exact ⟨⟨v, y, z.1⟩, z.2⟩
theorem eq_Rul {ru : Nat → Int32} {yes no ye nn : Nat → Int64} (h : er_Rul t ru yes no) (hr : ∀ i, i < 64 → eb_t r i = !decide (i = e)) (h1 : ex_ct yes ye r 24) (h2 : ex_ct no nn r 24) : er_Rul (upd t e 0) ru ye nn := by
  intro k hk j
  obtain ⟨a, b, c⟩ := h k hk j
  rw [eq_ct h1 hr hk, eq_ct h2 hr hk, a, b, eq_th]
  exact ⟨eq_ac _ _ _, eq_ac _ _ _, fun w => c (by rw [Bool.and_eq_true] at w; exact w.1)⟩
end
theorem i_vc_remove {k : Nat} {u : SX} {v : SY} (I : i_Rel k u v) (hk : k + 5 ≤ 2560) (v1 : Int32) : wpX_remove (fun r u' => wpY_remove (fun r' v' => r' = r ∧ i_Rel (k + 5) u' v') v v1) u v1 := by
  refine er_el (P := fun u v => wpX_remove (fun r u' => wpY_remove (fun r' v' => r' = r ∧ i_Rel (k + 5) u' v') v v1) u v1) ?_ I
  intro f_there f_isAlias f_serial f_tokens f_found a_parents a_names a_aliases a_serials a_under a_below a_having a_any a_yes a_no a_open a_known a_kinds a_attributes a_values a_isTrue a_isFalse g_tokens g_serial b_there b_parent b_name b_alias b_serials b_sets b_rules b_kinds b_attributes b_numbers b_stack b_searched b_gone b_finds dp I
  have J : i_Rel (k + 5) (f_there, f_isAlias, f_serial, f_tokens, f_found, a_parents, a_names, a_aliases, a_serials, a_under, a_below, a_having, a_any, a_yes, a_no, a_open, a_known, a_kinds, a_attributes, a_values, a_isTrue, a_isFalse) (g_tokens, g_serial, b_there, b_parent, b_name, b_alias, b_serials, b_sets, b_rules, b_kinds, b_attributes, b_numbers, b_stack, b_searched, b_gone, b_finds) := ⟨dp, er_up (by omega) I⟩
  obtain ⟨hTh, hTr, hPar, hNam, hAli, hAlY, hUnd, hBel, hHav, hAny, hSet, hRul, hOpn, hTok, hSer, hFnd⟩ := I
  obtain ⟨ns, ns'⟩ := er_Ser_ne hk hSer
  unfold wpX_remove
  by_cases h1 : et_T b_there v1
  · obtain ⟨e, he, rfl⟩ := h1
    have lt := et_th_lt he
    have ce : (nI e).toNatClampNeg = e := nI_clamp (by omega)
    have ve : vp_in (nI e) 48 := vp_in_nI lt (by decide)
    by_cases e0 : e = 0
    · subst e0
      refine ex_isThere_t hTh he (br_f em_10 (br_t rfl ?_))
      unfold wpY_remove
      exact br_f ns' (ey_isThere_t he (br_f em_10 (br_t rfl ⟨rfl, J⟩)))
    · have z0 : ¬ nI e = 0 := nI_ne0 (by omega) (by omega)
      by_cases hu : a_under e = 0
      · have leaf : ∀ j, et_th b_there j = true → j ≠ 0 → et_pa b_parent j ≠ e := by
          intro j hj j0 w
          have := hUnd e lt j
          rw [hu, eb_0, hj, decide_eq_true ((et_q_iff hTr hj lt).mpr ⟨j0, w⟩)] at this
          cases this
        have pt := (hTr.2.2.2 e he e0).2.1
        have lp := et_th_lt pt
        have cp : (nI (et_pa b_parent e)).toNatClampNeg = et_pa b_parent e := nI_clamp (by omega)
        have vp : vp_in (nI (et_pa b_parent e)) 48 := vp_in_nI lp (by decide)
        obtain ⟨s, hs, s1, s2, s3, q1, q2⟩ := hSer
        refine ex_isThere_t hTh he (br_f em_10 (br_f z0 ⟨ve, br_t (by rw [ce]; exact hu) (br_f ns ⟨ve, nm_r (e' := nI (et_pa b_parent e)) (by rw [ce, hPar e he, et_q hTr he e0]) (ex_bit (by omega) (fun b hb => nm_e ⟨vp, vp, nm_r (e' := vp_updL a_under (et_pa b_parent e) (a_under (et_pa b_parent e) &&& (b ^^^ (-1)))) (by rw [cp]) (ex_bit (by omega) (fun b' hb' => ex_carry hTr pt ?_ (fun bel hbel => nm_e (nm_e ⟨ve, nm_r (e' := upd a_parents e (-1)) (by rw [ce]; rfl) ⟨97, ex_rem_100 (y0 := a_having) s1 (fun al hv an ye nn hal r1 r2 r3 r4 => ?_) 96 0 a_having (by omega) (ex_ct_0 _ _)⟩⟩))))⟩))⟩)⟩))
        · intro j hj
          refine hPar j ?_
          unfold et_U at hj
          rw [Bool.or_eq_true] at hj
          rcases hj with hj | hj
          · rw [of_decide_eq_true hj]; exact pt
          · exact (et_B_th hTr _ pt j hj).1
        · have hr : ∀ i, i < 64 → eb_t (b ^^^ (-1)) i = !decide (i = e) := fun i hi => by rw [eb_not _ hi, hb]
          unfold wpY_remove
          refine br_f ns' (ey_isThere_t he (br_f em_10 (br_f z0 (ey_under ?_))))
          rw [et_cn_0 (fun i _ => by rw [← hUnd e lt i, hu, eb_0])]
          refine br_t (by decide) ⟨ve, nm_r (e' := upd b_there e 0) (by rw [ce]; rfl) ⟨49, ey_rem_40 (a0 := b_alias) s2 (fun l' hl' => ⟨rfl, dp, ?_⟩) 48 0 b_alias (by omega) (fun j hj => by rw [if_neg (fun w => Nat.not_lt_zero j w.1)])⟩⟩
          obtain ⟨E, A⟩ := eq_Ali hAli lt hr hal hl'
          rw [s3]
          refine ⟨fun i => ?_, et_rem_Tr hTr e0 leaf, fun i hi => ?_, ⟨hNam.1, fun i hi h0 => hNam.2 i (eq_thi hi).1 h0⟩, A, eq_AlY hTr hAlY lt E hl', eq_Und hTr hUnd he e0 hr, eq_Bel hTr hBel he e0 hb' hbel, eq_Hav hHav hr r1, eq_Any hAny hr r1 r2, fun j hj => hSet j (eq_thi hj).1, eq_Rul hRul hr r3 r4, fun k' hk' hn j hj => hOpn k' hk' hn j (eq_thi hj).1, hTok, ⟨s + 1, by omega, rfl, rfl, rfl, fun i hi => ?_, fun i j hi hj h => q2 i j (eq_thi hi).1 (eq_thi hj).1 h⟩, hFnd⟩
          · rw [eq_and hr, hTh i, eq_th]
          · rw [pk_un (eq_thi hi).2]; exact hPar i (eq_thi hi).1
          · obtain ⟨z, h, w⟩ := q1 i hi
            exact ⟨z, by omega, w⟩
      · refine ex_isThere_t hTh he (br_f em_10 (br_f z0 ⟨ve, br_f (by rw [ce]; exact hu) ?_⟩))
        unfold wpY_remove
        refine br_f ns' (ey_isThere_t he (br_f em_10 (br_f z0 (ey_under (br_f ?_ ⟨rfl, J⟩)))))
        obtain ⟨j, _, hj, _⟩ := eb_low hu
        rw [hUnd e lt] at hj
        have hj' := hj
        rw [Bool.and_eq_true] at hj'
        have pos := et_cn_pos (p := fun i => et_th b_there i && decide (b_parent i = nI e)) 48 (et_th_lt hj'.1) hj
        have le := et_cn_le (fun i => et_th b_there i && decide (b_parent i = nI e)) 48
        exact nI_nle pos (by omega)
  · refine ex_isThere_f hTh h1 (br_t rfl ?_)
    unfold wpY_remove
    exact br_f ns' (ey_isThere_f h1 (br_t rfl ⟨rfl, J⟩))
end
section
/-! ===== move ===== -/
section
variable {f_there f_isAlias f_found : Int64} {f_serial f_tokens : Int32} {a_parents a_names a_aliases a_serials a_known a_kinds a_attributes a_values : Nat → Int32} {a_under a_below a_having a_any a_yes a_no a_open a_isTrue a_isFalse : Nat → Int64}
variable {post : Int32 → SX → Prop} {t q : Nat → Int32} {dp : Nat → Nat}
theorem ex_move_94 (hTr : et_Tr dp t q) (hP : er_Par t q a_parents) {e p s : Nat} {w : Int32} (he : et_th t e = true) (e0 : e ≠ 0) (hp : et_th t p = true) (hS : et_S dp q e p = false) (hw : vp_nar .byte w.toInt8.toInt32 = w) (hs : f_serial = nI s)
    (H : ∀ b1 b2 set u1 bel1 bel2 kn, (∀ i, eb_t b1 i = decide (i = e)) → (∀ i, eb_t b2 i = decide (i = e)) → (∀ i, eb_t set i = (eb_t (a_below e) i || decide (i = e))) → u1 = vp_updL a_under (et_pa q e) (a_under (et_pa q e) &&& (b1 ^^^ (-1))) → ex_cs dp q a_below bel1 set 0 (et_pa q e) → ex_cs dp q bel1 bel2 set 1 p → (∀ k, k < 24 → kn k = 0) →
      post 1 (f_there, f_isAlias, nI (s + 1), f_tokens, f_found, upd a_parents e (nI p), upd a_names e w, a_aliases, upd a_serials e (nI (s + 1)), vp_updL u1 p (u1 p ||| b2), bel2, a_having, a_any, a_yes, a_no, a_open, kn, a_kinds, a_attributes, a_values, a_isTrue, a_isFalse)) :
    wX_move_94 post (nI e) (nI p) w f_there f_isAlias f_serial f_tokens f_found a_parents a_names a_aliases a_serials a_under a_below a_having a_any a_yes a_no a_open a_known a_kinds a_attributes a_values a_isTrue a_isFalse := by
  have lt := et_th_lt he
  have ce : (nI e).toNatClampNeg = e := nI_clamp (by omega)
  have ve : vp_in (nI e) 48 := vp_in_nI lt (by decide)
  have ltp := et_th_lt hp
  have cp : (nI p).toNatClampNeg = p := nI_clamp (by omega)
  have vp : vp_in (nI p) 48 := vp_in_nI ltp (by decide)
  have ot := (hTr.2.2.2 e he e0).2.1
  have lo := et_th_lt ot
  have co : (nI (et_pa q e)).toNatClampNeg = et_pa q e := nI_clamp (by omega)
  have vo : vp_in (nI (et_pa q e)) 48 := vp_in_nI lo (by decide)
  have UT : ∀ a, et_th t a = true → ∀ j, et_U dp q a j = true → et_th t j = true := by
    intro a ha j hj
    unfold et_U at hj
    rw [Bool.or_eq_true] at hj
    rcases hj with hj | hj
    · rw [of_decide_eq_true hj]; exact ha
    · exact (et_B_th hTr _ ha j hj).1
  refine ⟨ve, ex_bit (by omega) (fun b hb => nm_r (e' := a_below e ||| b) (by rw [ce]) ⟨ve, nm_r (e' := nI (et_pa q e)) (by rw [ce, hP e he, et_q hTr he e0]) ⟨vo, ex_bit (by omega) (fun b1 hb1 => ⟨vo, nm_r (e' := vp_updL a_under (et_pa q e) (a_under (et_pa q e) &&& (b1 ^^^ (-1)))) (by rw [co]) (ex_carry hTr ot (fun j hj => hP j (UT _ ot j hj)) (fun bel1 h1 => ?_))⟩)⟩⟩)⟩
  refine ⟨ve, nm_r (e' := upd a_parents e (nI p)) (by rw [ce, em_byte (by omega)]) ⟨ve, nm_r (e' := upd a_names e w) (by rw [ce, hw]) ⟨vp, ex_bit (by omega) (fun b2 hb2 => ⟨vp, nm_e (ex_carry (a_parents := upd a_parents e (nI p)) hTr hp (fun j hj => ?_) (fun bel2 h2 => ?_))⟩)⟩⟩⟩
  · have : j ≠ e := by
      intro z
      subst z
      have : et_S dp q j p = et_U dp q p j := by
        unfold et_S et_U
        congr 1
        exact decide_eq_decide.mpr ⟨fun z => z.symm, fun z => z.symm⟩
      rw [this, hj] at hS
      cases hS
    rw [pk_un this]
    exact hP j (UT _ hp j hj)
  · rw [cp]
    subst hs
    exact nm_r (nI_1 s) ⟨ve, nm_r (e' := upd a_serials e (nI (s + 1))) (by rw [ce, nI_1]) (ex_forget (fun kn hkn => H b1 b2 (a_below e ||| b) _ bel1 bel2 kn hb1 hb2 (fun i => by rw [eb_or, hb]) rfl h1 h2 hkn))⟩
end
section
variable {dp : Nat → Nat} {t q l : Nat → Int32} {e p : Nat}
theorem eo_Und (hTr : et_Tr dp t q) {und u1 : Nat → Int64} {b1 b2 : Int64} (h : er_Und t q und) (he : et_th t e = true) (e0 : e ≠ 0) (hp : p < 48) (hb1 : ∀ i, eb_t b1 i = decide (i = e)) (hb2 : ∀ i, eb_t b2 i = decide (i = e))
    (hu : u1 = vp_updL und (et_pa q e) (und (et_pa q e) &&& (b1 ^^^ (-1)))) : er_Und t (upd q e (nI p)) (vp_updL u1 p (u1 p ||| b2)) := by
  have hr : ∀ i, i < 64 → eb_t (b1 ^^^ (-1)) i = !decide (i = e) := fun i hi => by rw [eb_not _ hi, hb1]
  have U1 : ∀ p', p' < 48 → ∀ j, eb_t (u1 p') j = (et_th t j && decide (q j = nI p') && !decide (j = e)) := by
    intro p' hp' j
    rw [hu]
    by_cases y : p' = et_pa q e
    · rw [← y, pk_uLs, eq_and hr, h p' hp']
    · rw [pk_uLn y, h p' hp']
      by_cases z : j = e
      · subst z
        rw [decide_eq_false (fun w => y ((et_q_iff hTr he hp').mp w).2.symm), Bool.and_false, Bool.false_and]
      · rw [decide_eq_false z, Bool.not_false, Bool.and_true]
  intro p' hp' j
  have : eb_t (vp_updL u1 p (u1 p ||| b2) p') j = (eb_t (u1 p') j || (decide (p' = p) && decide (j = e))) := by
    by_cases y : p' = p
    · rw [y, pk_uLs, eb_or, hb2, decide_eq_true rfl, Bool.true_and]
    · rw [pk_uLn y, decide_eq_false y, Bool.false_and, Bool.or_false]
  rw [this, U1 p' hp' j]
  by_cases z : j = e
  · rw [z, pk_us, he, decide_eq_true (rfl : e = e), Bool.not_true, Bool.and_false, Bool.false_or, Bool.and_true, Bool.true_and]
    exact decide_eq_decide.mpr ⟨fun w => by rw [w], fun w => ((nI_eq (by omega) (by omega)).mp w).symm⟩
  · rw [pk_un z, decide_eq_false z, Bool.not_false, Bool.and_true, Bool.and_false, Bool.or_false]
theorem eo_bool (x s u v : Bool) : ((x && !(u && s)) || (v && s)) = if s = true then ((x && !u) || v) else x := by
  cases x <;> cases s <;> cases u <;> cases v <;> rfl
theorem eo_Bel (hTr : et_Tr dp t q) {bel bel1 bel2 : Nat → Int64} {set : Int64} (h : er_Bel dp t q bel) (he : et_th t e = true) (e0 : e ≠ 0) (hp : et_th t p = true) (hS : et_S dp q e p = false)
    (hset : ∀ i, eb_t set i = (eb_t (bel e) i || decide (i = e))) (h1 : ex_cs dp q bel bel1 set 0 (et_pa q e)) (h2 : ex_cs dp q bel1 bel2 set 1 p) : er_Bel (et_mdp dp q e p) t (upd q e (nI p)) bel2 := by
  intro a ha j
  have lt := et_th_lt he
  rcases Nat.lt_or_ge j 64 with y | y
  · rw [ea_Bel0 h2 y, eq_Bel0 h1 y, h a ha j]
    cases w : et_th t j
    · have : eb_t set j = false := by
        rw [hset, h e lt, w, decide_eq_false (fun z => by rw [z, he] at w; cases w)]; rfl
      rw [this, Bool.and_false, Bool.and_false, Bool.false_and, Bool.false_and, Bool.or_false, Bool.false_and]
    · have : eb_t set j = et_S dp q e j := by
        rw [hset, h e lt, w, Bool.true_and, Bool.or_comm]; rfl
      rw [this, Bool.true_and, Bool.true_and, et_mv_B hTr he e0 hp hS j w a]
      exact eo_bool _ _ _ _
  · rw [eb_big y, et_th_big (by omega), Bool.false_and]
theorem eo_AlY (hTr : et_Tr dp t q) (h : er_AlY t q l) (hp : et_th t p = true) (hal : et_al t l p = false) : er_AlY t (upd q e (nI p)) l := by
  refine ⟨h.1, h.2.1, fun i hi h0 => ?_⟩
  by_cases z : i = e
  · subst z
    rw [et_pa_u (et_th_lt hp)]
    exact et_al_f hp hal
  · rw [et_pa_n z]; exact h.2.2 i hi h0
end
section
variable {g_tokens g_serial : Int32} {b_there b_parent b_name b_alias b_serials b_sets b_rules b_kinds b_attributes b_numbers b_stack b_searched b_gone b_finds : Nat → Int32}
variable {post : Int32 → SY → Prop} {dp : Nat → Nat}
theorem ey_move (hTr : et_Tr dp b_there b_parent) {e p n : Nat} (ns : ¬ g_serial = 1000000000) (he : et_th b_there e = true) (e0 : e ≠ 0) (hp : et_th b_there p = true) (hal : et_al b_there b_alias p = false) (pe : p ≠ e) (hB : et_B dp b_parent p e = false) (hn : n < 100)
    (H1 : et_fs (ea_p b_there b_parent b_name p (nI n)) 48 0 < 0 → wY_move_83 post (nI e) (nI p) (nI n) g_tokens g_serial b_there b_parent b_name b_alias b_serials b_sets b_rules b_kinds b_attributes b_numbers b_stack b_searched b_gone b_finds) (H2 : et_fs (ea_p b_there b_parent b_name p (nI n)) 48 0 = nI e → wY_move_83 post (nI e) (nI p) (nI n) g_tokens g_serial b_there b_parent b_name b_alias b_serials b_sets b_rules b_kinds b_attributes b_numbers b_stack b_searched b_gone b_finds)
    (H3 : ¬ et_fs (ea_p b_there b_parent b_name p (nI n)) 48 0 < 0 → ¬ et_fs (ea_p b_there b_parent b_name p (nI n)) 48 0 = nI e → post 0 (g_tokens, g_serial, b_there, b_parent, b_name, b_alias, b_serials, b_sets, b_rules, b_kinds, b_attributes, b_numbers, b_stack, b_searched, b_gone, b_finds)) : wpY_move post (g_tokens, g_serial, b_there, b_parent, b_name, b_alias, b_serials, b_sets, b_rules, b_kinds, b_attributes, b_numbers, b_stack, b_searched, b_gone, b_finds) (nI e) (nI p) (nI n) := by
  have l1 := et_th_lt he
  have l2 := et_th_lt hp
  unfold wpY_move
  refine br_f ns (ey_isThere_t he (br_f em_10 (ey_isThere_t hp (br_f em_10 (br_f (nI_ne0 (by omega) (by omega)) (ey_isAlias hp ?_))))))
  rw [hal]
  refine br_t rfl (br_f (fun w => pe ((nI_eq (by omega) (by omega)).mp w)) (ey_isBelow hTr hp l1 ?_))
  rw [hB]
  exact br_t rfl (ey_in_t (N := 100) hn (by decide) (br_f em_10 (ey_child hTr hp (br_c H1 (fun z => br_c H2 (fun y => H3 z y))))))
end
theorem i_vc_move {k : Nat} {u : SX} {v : SY} (I : i_Rel k u v) (hk : k + 5 ≤ 2560) (v1 : Int32) (v2 : Int32) (v3 : Int32) : wpX_move (fun r u' => wpY_move (fun r' v' => r' = r ∧ i_Rel (k + 5) u' v') v v1 v2 v3) u v1 v2 v3 := by
  refine er_el (P := fun u v => wpX_move (fun r u' => wpY_move (fun r' v' => r' = r ∧ i_Rel (k + 5) u' v') v v1 v2 v3) u v1 v2 v3) ?_ I
  intro f_there f_isAlias f_serial f_tokens f_found a_parents a_names a_aliases a_serials a_under a_below a_having a_any a_yes a_no a_open a_known a_kinds a_attributes a_values a_isTrue a_isFalse g_tokens g_serial b_there b_parent b_name b_alias b_serials b_sets b_rules b_kinds b_attributes b_numbers b_stack b_searched b_gone b_finds dp I
  have J : i_Rel (k + 5) (f_there, f_isAlias, f_serial, f_tokens, f_found, a_parents, a_names, a_aliases, a_serials, a_under, a_below, a_having, a_any, a_yes, a_no, a_open, a_known, a_kinds, a_attributes, a_values, a_isTrue, a_isFalse) (g_tokens, g_serial, b_there, b_parent, b_name, b_alias, b_serials, b_sets, b_rules, b_kinds, b_attributes, b_numbers, b_stack, b_searched, b_gone, b_finds) := ⟨dp, er_up (by omega) I⟩
  obtain ⟨hTh, hTr, hPar, hNam, hAli, hAlY, hUnd, hBel, hHav, hAny, hSet, hRul, hOpn, hTok, hSer, hFnd⟩ := I
  obtain ⟨ns, ns'⟩ := er_Ser_ne hk hSer
  unfold wpX_move
  by_cases h1 : et_T b_there v1
  · obtain ⟨e, he, rfl⟩ := h1
    have lt := et_th_lt he
    have ce : (nI e).toNatClampNeg = e := nI_clamp (by omega)
    have ve : vp_in (nI e) 48 := vp_in_nI lt (by decide)
    by_cases h2 : et_T b_there v2
    · obtain ⟨p, hp, rfl⟩ := h2
      have ltp := et_th_lt hp
      by_cases e0 : e = 0
      · subst e0
        refine ex_isThere_t hTh he (br_f em_10 (br_t rfl ?_))
        unfold wpY_move
        exact br_f ns' (ey_isThere_t he (br_f em_10 (ey_isThere_t hp (br_f em_10 (br_t rfl ⟨rfl, J⟩)))))
      · have z0 : ¬ nI e = 0 := nI_ne0 (by omega) (by omega)
        cases hal : et_al b_there b_alias p
        · have hs0 := eb_shr0 ((hAli.1 p).trans hal) (by omega)
          by_cases pe : p = e
          · subst pe
            refine ex_isThere_t hTh he (br_f em_10 (br_f z0 (ex_isThere_t hTh hp (br_f em_10 (br_t hs0 (br_t rfl ?_))))))
            unfold wpY_move
            refine br_f ns' (ey_isThere_t he (br_f em_10 (ey_isThere_t hp (br_f em_10 (br_f z0 (ey_isAlias hp ?_))))))
            rw [hal]
            exact br_t rfl (br_t rfl ⟨rfl, J⟩)
          · have npe : ¬ nI p = nI e := fun w => pe ((nI_eq (by omega) (by omega)).mp w)
            have hbb : eb_t (a_below e) p = et_B dp b_parent p e := by rw [hBel e lt, hp, Bool.true_and]
            cases hB : et_B dp b_parent p e
            · by_cases h3 : em_I 100 v3
              · obtain ⟨n, hn, rfl⟩ := h3
                obtain ⟨s, hs, s1, s2, s3, q1, q2⟩ := hSer
                have hS : et_S dp b_parent e p = false := by unfold et_S; rw [hB, decide_eq_false pe]; rfl
                have M : ∀ {P : Int32 → SX → Prop}, (∀ u', wY_move_83 (fun r' v' => r' = 1 ∧ i_Rel (k + 5) u' v') (nI e) (nI p) (nI n) g_tokens g_serial b_there b_parent b_name b_alias b_serials b_sets b_rules b_kinds b_attributes b_numbers b_stack b_searched b_gone b_finds → P 1 u') → wX_move_94 P (nI e) (nI p) (nI n) f_there f_isAlias f_serial f_tokens f_found a_parents a_names a_aliases a_serials a_under a_below a_having a_any a_yes a_no a_open a_known a_kinds a_attributes a_values a_isTrue a_isFalse := by
                  intro P hP
                  refine ex_move_94 hTr hPar he e0 hp hS (em_byte (by omega)) s1 (fun b1 b2 set u1 bel1 bel2 kn hb1 hb2 hset hu hc1 hc2 hkn => hP _ ?_)
                  refine ⟨ve, nm_r (e' := upd b_parent e (nI p)) (by rw [ce]) ⟨ve, nm_r (e' := upd b_name e (nI n)) (by rw [ce]) (ey_stamp lt s2 ⟨rfl, et_mdp dp b_parent e p, ?_⟩)⟩⟩
                  rw [s3]
                  refine ⟨hTh, et_mv_Tr hTr he e0 hp hS, fun i hi => ?_, ⟨by rw [pk_un (Ne.symm e0)]; exact hNam.1, fun i hi h0 => ?_⟩, hAli, eo_AlY hTr hAlY hp hal, eo_Und hTr hUnd he e0 ltp hb1 hb2 hu, eo_Bel hTr hBel he e0 hp hS hset hc1 hc2, hHav, hAny, hSet, hRul, fun k' hk' w => absurd (hkn k' hk') w, hTok, er_Ser_st hs hk q1 q2 (fun i _ h => h), hFnd⟩
                  · by_cases z : i = e
                    · rw [z, pk_us, pk_us]
                    · rw [pk_un z, pk_un z]; exact hPar i hi
                  · by_cases z : i = e
                    · rw [z, pk_us, pk_us]
                    · rw [pk_un z, pk_un z]; exact hNam.2 i hi h0
                refine ex_isThere_t hTh he (br_f em_10 (br_f z0 (ex_isThere_t hTh hp (br_f em_10 (br_t hs0 (br_f npe ⟨ve, br_t (by rw [ce]; exact eb_shr0 (hbb.trans hB) (by omega)) (ex_in_t (N := 100) hn (by decide) (br_f em_10 (br_f ns (ex_named hTr hUnd hNam ltp ?_))))⟩))))))
                by_cases y1 : et_fs (ea_p b_there b_parent b_name p (nI n)) 48 0 < 0
                · exact br_t y1 (M (fun u' hY => ey_move hTr ns' he e0 hp hal pe hB hn (fun _ => hY) (fun _ => hY) (fun w => absurd y1 w)))
                · by_cases y2 : et_fs (ea_p b_there b_parent b_name p (nI n)) 48 0 = nI e
                  · exact br_f y1 (br_t y2 (M (fun u' hY => ey_move hTr ns' he e0 hp hal pe hB hn (fun _ => hY) (fun _ => hY) (fun _ w => absurd y2 w))))
                  · exact br_f y1 (br_f y2 (ey_move hTr ns' he e0 hp hal pe hB hn (fun w => absurd w y1) (fun w => absurd w y2) (fun _ _ => ⟨rfl, J⟩)))
              · refine ex_isThere_t hTh he (br_f em_10 (br_f z0 (ex_isThere_t hTh hp (br_f em_10 (br_t hs0 (br_f npe ⟨ve, br_t (by rw [ce]; exact eb_shr0 (hbb.trans hB) (by omega)) (ex_in_f (N := 100) (by decide) h3 (br_t rfl ?_))⟩))))))
                unfold wpY_move
                refine br_f ns' (ey_isThere_t he (br_f em_10 (ey_isThere_t hp (br_f em_10 (br_f z0 (ey_isAlias hp ?_))))))
                rw [hal]
                refine br_t rfl (br_f npe (ey_isBelow hTr hp lt ?_))
                rw [hB]
                exact br_t rfl (ey_in_f (N := 100) (by decide) h3 (br_t rfl ⟨rfl, J⟩))
            · refine ex_isThere_t hTh he (br_f em_10 (br_f z0 (ex_isThere_t hTh hp (br_f em_10 (br_t hs0 (br_f npe ⟨ve, br_f (by rw [ce]; exact eb_shr1 (hbb.trans hB)) ?_⟩))))))
              unfold wpY_move
              refine br_f ns' (ey_isThere_t he (br_f em_10 (ey_isThere_t hp (br_f em_10 (br_f z0 (ey_isAlias hp ?_))))))
              rw [hal]
              refine br_t rfl (br_f npe (ey_isBelow hTr hp lt ?_))
              rw [hB]
              exact br_f em_10 ⟨rfl, J⟩
        · refine ex_isThere_t hTh he (br_f em_10 (br_f z0 (ex_isThere_t hTh hp (br_f em_10 (br_f (eb_shr1 ((hAli.1 p).trans hal)) ?_)))))
          unfold wpY_move
          refine br_f ns' (ey_isThere_t he (br_f em_10 (ey_isThere_t hp (br_f em_10 (br_f z0 (ey_isAlias hp ?_))))))
          rw [hal]
          exact br_f em_10 ⟨rfl, J⟩
    · have Y : wpY_move (fun r' v' => r' = 0 ∧ i_Rel (k + 5) (f_there, f_isAlias, f_serial, f_tokens, f_found, a_parents, a_names, a_aliases, a_serials, a_under, a_below, a_having, a_any, a_yes, a_no, a_open, a_known, a_kinds, a_attributes, a_values, a_isTrue, a_isFalse) v') (g_tokens, g_serial, b_there, b_parent, b_name, b_alias, b_serials, b_sets, b_rules, b_kinds, b_attributes, b_numbers, b_stack, b_searched, b_gone, b_finds) (nI e) v2 v3 := by
        unfold wpY_move
        exact br_f ns' (ey_isThere_t he (br_f em_10 (ey_isThere_f h2 (br_t rfl ⟨rfl, J⟩))))
      exact ex_isThere_t hTh he (br_f em_10 (br_c (fun _ => Y) (fun _ => ex_isThere_f hTh h2 (br_t rfl Y))))
  · refine ex_isThere_f hTh h1 (br_t rfl ?_)
    unfold wpY_move
    exact br_f ns' (ey_isThere_f h1 (br_t rfl ⟨rfl, J⟩))
end
section
/-! ===== filters: form, values ===== -/
def ef_s (κ m : Nat) : Nat := if κ < 4 then m - 1 else if κ = 6 then m else m + 1
def ef_m (ka : Nat → Nat) : Nat → Nat
  | 0 => 1
  | k + 1 => ef_s (ka k) (ef_m ka k)
def ef_w (ka : Nat → Nat) : Nat → Nat → Nat → Bool
  | 0, _, m => decide (m = 0)
  | d + 1, k, m => if m = 0 then false else ef_w ka d (k + 1) (ef_s (ka k) m)
theorem ef_w_i {ka : Nat → Nat} {T : Nat} : ∀ d k, k + d = T → ef_w ka d k (ef_m ka k) = true → (∀ j, k ≤ j → j < T → 1 ≤ ef_m ka j) ∧ ef_m ka T = 0 := by
  intro d
  induction d with
  | zero =>
    intro k hk h
    obtain rfl : k = T := by omega
    exact ⟨fun j a b => by omega, of_decide_eq_true h⟩
  | succ d ih =>
    intro k hk h
    have h' : (if ef_m ka k = 0 then false else ef_w ka d (k + 1) (ef_s (ka k) (ef_m ka k))) = true := h
    by_cases z : ef_m ka k = 0
    · rw [if_pos z] at h'; cases h'
    · rw [if_neg z] at h'
      obtain ⟨a, b⟩ := ih (k + 1) (by omega) h'
      refine ⟨fun j c d => ?_, b⟩
      by_cases y : j = k
      · rw [y]; omega
      · exact a j (by omega) d
/-- the form of a filter of T tokens -/
def ef_F (ka : Nat → Nat) (T : Nat) : Prop := (∀ j, j < T → 1 ≤ ef_m ka j) ∧ ef_m ka T = 0
theorem ef_F_le {ka : Nat → Nat} {T : Nat} (h : ef_F ka T) : ∀ d k, k + d = T → ef_m ka k ≤ d := by
  intro d
  induction d with
  | zero =>
    intro k hk
    obtain rfl : k = T := by omega
    rw [h.2]; exact Nat.le_refl 0
  | succ d ih =>
    intro k hk
    have := ih (k + 1) (by omega)
    have e : ef_m ka (k + 1) = ef_s (ka k) (ef_m ka k) := rfl
    rw [e] at this
    unfold ef_s at this
    by_cases y : ka k < 4
    · rw [if_pos y] at this; omega
    · rw [if_neg y] at this
      by_cases z : ka k = 6
      · rw [if_pos z] at this; omega
      · rw [if_neg z] at this; omega
theorem ef_m_leaf {ka : Nat → Nat} {T k : Nat} (h : ef_F ka T) (hk : k < T) (hκ : ka k < 4) : ef_m ka k = ef_m ka (k + 1) + 1 := by
  have a := h.1 k hk
  have e : ef_m ka (k + 1) = ef_m ka k - 1 := if_pos hκ
  omega
theorem ef_m_not {ka : Nat → Nat} {k : Nat} (hκ : ka k = 6) : ef_m ka (k + 1) = ef_m ka k := by
  show (if ka k < 4 then _ else if ka k = 6 then _ else _) = _
  rw [if_neg (by omega), if_pos hκ]
theorem ef_m_bin {ka : Nat → Nat} {k : Nat} (h4 : ¬ ka k < 4) (h6 : ¬ ka k = 6) : ef_m ka (k + 1) = ef_m ka k + 1 := by
  show (if ka k < 4 then _ else if ka k = 6 then _ else _) = _
  rw [if_neg h4, if_neg h6]
section
variable {f_there f_isAlias f_found : Int64} {f_serial f_tokens : Int32} {a_parents a_names a_aliases a_serials a_known a_kinds a_attributes a_values : Nat → Int32} {a_under a_below a_having a_any a_yes a_no a_open a_isTrue a_isFalse : Nat → Int64}
variable {post : Int32 → Prop} {ka aa va : Nat → Nat} {T : Nat}
theorem ex_whole (hT : T ≤ 12) (ht : f_tokens = nI T) (hA : er_TokA T ka aa va a_kinds a_attributes a_values) (h : post (em_b (ef_w ka T 0 1))) : wpX_whole post (f_there, f_isAlias, f_serial, f_tokens, f_found, a_parents, a_names, a_aliases, a_serials, a_under, a_below, a_having, a_any, a_yes, a_no, a_open, a_known, a_kinds, a_attributes, a_values, a_isTrue, a_isFalse) := by
  unfold wpX_whole
  subst ht
  have L : ∀ d k m, k + d = T → m ≤ k + 1 → post (em_b (ef_w ka d k m)) → wX_whole_4 post f_there f_isAlias f_serial (nI T) f_found a_parents a_names a_aliases a_serials a_under a_below a_having a_any a_yes a_no a_open a_known a_kinds a_attributes a_values a_isTrue a_isFalse (d + 1) (nI m) (nI k) := by
    intro d
    induction d with
    | zero =>
      intro k m hk hm h
      refine br_t (nI_le (by omega) (by omega)) ?_
      by_cases z : m = 0
      · subst z; exact br_t rfl h
      · have : ef_w ka 0 k m = false := decide_eq_false z
        rw [this] at h
        exact br_f (nI_ne0 (by omega) (by omega)) h
    | succ d ih =>
      intro k m hk hm h
      refine br_f (nI_ge (by omega) (by omega)) ?_
      by_cases z : m = 0
      · subst z; exact br_t rfl h
      · have e : ef_w ka (d + 1) k m = ef_w ka d (k + 1) (ef_s (ka k) m) := if_neg z
        rw [e] at h
        have ck : (nI k).toNatClampNeg = k := nI_clamp (by omega)
        have vk : vp_in (nI k) 12 := vp_in_nI (by omega) (by decide)
        obtain ⟨k7, kk, _⟩ := hA k (by omega)
        refine br_f (nI_ne0 (by omega) (by omega)) ⟨vk, ?_⟩
        rw [ck, kk]
        by_cases y : ka k < 4
        · have es : ef_s (ka k) m = m - 1 := if_pos y
          rw [es] at h
          exact br_f (nI_ge (b := 4) y (by decide)) (nm_r (e' := nI (m - 1)) (sb_m1 (by omega)) (nm_r (nI_1 k) (ih (k + 1) _ (by omega) (by omega) h)))
        · refine br_t (nI_le (a := 4) (by omega) (by omega)) ⟨vk, ?_⟩
          by_cases w : ka k = 6
          · have es : ef_s (ka k) m = m := by unfold ef_s; rw [if_neg y, if_pos w]
            rw [es] at h
            exact br_t (by rw [w]; rfl) (nm_r (Int32.add_zero _) (nm_r (nI_1 k) (ih (k + 1) _ (by omega) (by omega) h)))
          · have es : ef_s (ka k) m = m + 1 := by unfold ef_s; rw [if_neg y, if_neg w]
            rw [es] at h
            exact br_f (fun x => w ((nI_eq (b := 6) (by omega) (by decide)).mp x)) (nm_r (nI_1 m) (nm_r (nI_1 k) (ih (k + 1) _ (by omega) (by omega) h)))
  exact ⟨T + 1, L T 0 1 (by omega) (by omega) h⟩
end
section
variable {g_tokens g_serial : Int32} {b_there b_parent b_name b_alias b_serials b_sets b_rules b_kinds b_attributes b_numbers b_stack b_searched b_gone b_finds : Nat → Int32}
variable {post : Int32 → Prop} {ka aa va : Nat → Nat} {T : Nat}
theorem ey_whole (hT : T ≤ 12) (ht : g_tokens = nI T) (hA : er_TokA T ka aa va b_kinds b_attributes b_numbers) (h : post (em_b (ef_w ka T 0 1))) : wpY_isExpression post (g_tokens, g_serial, b_there, b_parent, b_name, b_alias, b_serials, b_sets, b_rules, b_kinds, b_attributes, b_numbers, b_stack, b_searched, b_gone, b_finds) := by
  unfold wpY_isExpression
  subst ht
  have L : ∀ d k m, k + d = T → m ≤ k + 1 → post (em_b (ef_w ka d k m)) → wY_isExpression_4 post (nI T) g_serial b_there b_parent b_name b_alias b_serials b_sets b_rules b_kinds b_attributes b_numbers b_stack b_searched b_gone b_finds (d + 1) (nI m) (nI k) := by
    intro d
    induction d with
    | zero =>
      intro k m hk hm h
      refine br_t (nI_le (by omega) (by omega)) ?_
      by_cases z : m = 0
      · subst z; exact br_t rfl h
      · have : ef_w ka 0 k m = false := decide_eq_false z
        rw [this] at h
        exact br_f (nI_ne0 (by omega) (by omega)) h
    | succ d ih =>
      intro k m hk hm h
      refine br_f (nI_ge (by omega) (by omega)) ?_
      by_cases z : m = 0
      · subst z; exact br_t rfl h
      · have e : ef_w ka (d + 1) k m = ef_w ka d (k + 1) (ef_s (ka k) m) := if_neg z
        rw [e] at h
        have ck : (nI k).toNatClampNeg = k := nI_clamp (by omega)
        have vk : vp_in (nI k) 12 := vp_in_nI (by omega) (by decide)
        obtain ⟨k7, kk, _⟩ := hA k (by omega)
        refine br_f (nI_ne0 (by omega) (by omega)) ⟨vk, ?_⟩
        rw [ck, kk]
        by_cases y : ka k < 4
        · have es : ef_s (ka k) m = m - 1 := if_pos y
          rw [es] at h
          exact br_f (nI_ge (b := 4) y (by decide)) (nm_r (e' := nI (m - 1)) (sb_m1 (by omega)) (nm_r (nI_1 k) (ih (k + 1) _ (by omega) (by omega) h)))
        · refine br_t (nI_le (a := 4) (by omega) (by omega)) ⟨vk, ?_⟩
          by_cases w : ka k = 6
          · have es : ef_s (ka k) m = m := by unfold ef_s; rw [if_neg y, if_pos w]
            rw [es] at h
            exact br_t (by rw [w]; rfl) (nm_r (Int32.add_zero _) (nm_r (nI_1 k) (ih (k + 1) _ (by omega) (by omega) h)))
          · have es : ef_s (ka k) m = m + 1 := by unfold ef_s; rw [if_neg y, if_neg w]
            rw [es] at h
            exact br_f (fun x => w ((nI_eq (b := 6) (by omega) (by decide)).mp x)) (nm_r (nI_1 m) (nm_r (nI_1 k) (ih (k + 1) _ (by omega) (by omega) h)))
  exact ⟨T + 1, L T 0 1 (by omega) (by omega) h⟩
end
/-! one token -/
def ef_or (p : Nat → Bool) : Nat → Bool
  | 0 => false
  | n + 1 => ef_or p n || p n
theorem ef_or_i {p : Nat → Bool} : ∀ n, ef_or p n = true ↔ ∃ v, v < n ∧ p v = true := by
  intro n
  induction n with
  | zero => exact ⟨fun z => (by cases z), fun ⟨v, h, _⟩ => by omega⟩
  | succ n ih =>
    show (ef_or p n || p n) = true ↔ _
    rw [Bool.or_eq_true, ih]
    constructor
    · rintro (⟨v, a, b⟩ | b)
      · exact ⟨v, by omega, b⟩
      · exact ⟨n, by omega, b⟩
    · rintro ⟨v, a, b⟩
      by_cases z : v = n
      · rw [z] at b; exact Or.inr b
      · exact Or.inl ⟨v, by omega, b⟩
/-- does value v meet a token of kind κ with number ν -/
def ef_cd (κ ν v : Nat) : Bool := decide (κ = 0) || (decide (κ = 1) && decide (v = ν)) || (decide (κ = 2) && decide (ν ≤ v)) || (decide (κ = 3) && decide (v ≤ ν))
def ef_sm (S : Int32) (κ ν : Nat) : Bool := ef_or (fun v => bt S v && ef_cd κ ν v) 16
/-- the value of a plain token at an entry: 2 true, 1 open, 0 false -/
def ef_pl (r s : Bool) : Nat := if r = false then 1 else if s = true then 2 else 0
section
variable {g_tokens g_serial : Int32} {b_there b_parent b_name b_alias b_serials b_sets b_rules b_kinds b_attributes b_numbers b_stack b_searched b_gone b_finds : Nat → Int32}
variable {post : Int32 → Prop} {ka aa va : Nat → Nat} {T : Nat} {dp : Nat → Nat}
theorem em_or1 (c : Bool) : em_b c ||| 1 = em_b (c || true) := by cases c <;> decide
theorem em_or0 (c : Bool) : em_b c ||| 0 = em_b (c || false) := by cases c <;> decide
theorem ey_plain_23 {j e : Nat} (hT : T ≤ 12) (hA : er_TokA T ka aa va b_kinds b_attributes b_numbers) (hj : j < T) (hκ : ka j < 4) (he : e < 48)
    (h : post (if ef_sm (b_sets (6 * e + aa j)) (ka j) (va j) = true then 2 else 0)) :
    ∀ d i, i + d = 16 → wY_plain_23 post (nI j) (nI e) g_tokens g_serial b_there b_parent b_name b_alias b_serials b_sets b_rules b_kinds b_attributes b_numbers b_stack b_searched b_gone b_finds (d + 1) (em_b (ef_or (fun v => bt (b_sets (6 * e + aa j)) v && ef_cd (ka j) (va j) v) i)) (nI i) := by
  obtain ⟨k7, kk, ha, hv⟩ := hA j hj
  obtain ⟨a6, ka'⟩ := ha hκ
  have cj : (nI j).toNatClampNeg = j := nI_clamp (by omega)
  have vj : vp_in (nI j) 12 := vp_in_nI (by omega) (by decide)
  have e2 : (6 * nI e) + nI (aa j) = nI (6 * e + aa j) := by rw [show (6 : Int32) = nI 6 from rfl, pk_mul, nI_add]
  have c2 : (nI (6 * e + aa j)).toNatClampNeg = 6 * e + aa j := nI_clamp (by omega)
  intro d
  induction d with
  | zero =>
    intro i hi
    obtain rfl : i = 16 := by omega
    refine br_t (nI_le (a := 16) (b := 16) (Nat.le_refl _) (by decide)) ?_
    unfold ef_sm at h
    cases z : ef_or (fun v => bt (b_sets (6 * e + aa j)) v && ef_cd (ka j) (va j) v) 16
    · rw [z] at h; exact br_t rfl h
    · rw [z] at h; exact br_f em_10 h
  | succ d ih =>
    intro i hi
    have ih := ih (i + 1) (by omega)
    refine br_f (nI_ge (b := 16) (by omega) (by decide)) ⟨vj, ?_⟩
    rw [cj, ka', e2]
    refine ⟨vp_in_nI (by omega) (by decide), ?_⟩
    rw [c2, em_bit1 (by omega)]
    have E : ef_or (fun v => bt (b_sets (6 * e + aa j)) v && ef_cd (ka j) (va j) v) (i + 1) = (ef_or (fun v => bt (b_sets (6 * e + aa j)) v && ef_cd (ka j) (va j) v) i || (bt (b_sets (6 * e + aa j)) i && ef_cd (ka j) (va j) i)) := rfl
    rw [E] at ih
    generalize ef_or (fun v => bt (b_sets (6 * e + aa j)) v && ef_cd (ka j) (va j) v) i = acc at ih ⊢
    cases z : bt (b_sets (6 * e + aa j)) i
    · rw [z, Bool.false_and, Bool.or_false] at ih
      exact br_t rfl (nm_r (nI_1 i) ih)
    · rw [z, Bool.true_and] at ih
      have W1 : ef_cd (ka j) (va j) i = true → em_b acc ||| 1 = em_b (acc || ef_cd (ka j) (va j) i) := fun y => by rw [y]; exact em_or1 acc
      have W0 : ef_cd (ka j) (va j) i = false → em_b acc ||| 0 = em_b (acc || ef_cd (ka j) (va j) i) := fun y => by rw [y]; exact em_or0 acc
      refine br_f em_10 ⟨vj, ?_⟩
      rw [kk]
      have hc : ka j = 0 ∨ ka j = 1 ∨ ka j = 2 ∨ ka j = 3 := by omega
      rcases hc with y | y | y | y
      · rw [y] at W1 ⊢
        exact br_t rfl (nm_r (W1 rfl) (nm_r (nI_1 i) (by rw [← y]; exact ih)))
      · obtain ⟨v16, kv⟩ := hv (by omega) hκ
        rw [y] at W1 W0 ih ⊢
        refine br_f (by decide) ⟨vj, br_t rfl ⟨vj, ?_⟩⟩
        rw [kv]
        by_cases w : i = va j
        · exact br_t (by rw [w]) (nm_r (W1 (by rw [w]; unfold ef_cd; rw [decide_eq_true (rfl : va j = va j)]; rfl)) (nm_r (nI_1 i) ih))
        · refine br_f (fun x => w ((nI_eq (by omega) (by omega)).mp x)) ⟨vj, ?_⟩
          rw [cj, kk, y]
          refine br_f (by decide) ⟨vj, ?_⟩
          rw [cj, kk, y]
          exact br_f (by decide) (nm_r (W0 (by unfold ef_cd; rw [decide_eq_false w]; rfl)) (nm_r (nI_1 i) ih))
      · obtain ⟨v16, kv⟩ := hv (by omega) hκ
        rw [y] at W1 W0 ih ⊢
        refine br_f (by decide) ⟨vj, br_f (by decide) ⟨vj, ?_⟩⟩
        rw [cj, kk, y]
        refine br_t rfl ⟨vj, ?_⟩
        rw [kv]
        by_cases w : va j ≤ i
        · exact br_t (nI_le w (by omega)) (nm_r (W1 (by unfold ef_cd; rw [decide_eq_true w]; rfl)) (nm_r (nI_1 i) ih))
        · refine br_f (nI_ge (by omega) (by omega)) ⟨vj, ?_⟩
          rw [cj, kk, y]
          exact br_f (by decide) (nm_r (W0 (by unfold ef_cd; rw [decide_eq_false w]; rfl)) (nm_r (nI_1 i) ih))
      · obtain ⟨v16, kv⟩ := hv (by omega) hκ
        rw [y] at W1 W0 ih ⊢
        refine br_f (by decide) ⟨vj, br_f (by decide) ⟨vj, ?_⟩⟩
        rw [cj, kk, y]
        refine br_f (by decide) ⟨vj, ?_⟩
        rw [cj, kk, y]
        refine br_t rfl ⟨vj, ?_⟩
        rw [kv]
        by_cases w : i ≤ va j
        · exact br_f (nI_nlt w (by omega)) (nm_r (W1 (by unfold ef_cd; rw [decide_eq_true w]; rfl)) (nm_r (nI_1 i) ih))
        · exact br_t (nI_lt (by omega) (by omega)) (nm_r (W0 (by unfold ef_cd; rw [decide_eq_false w]; rfl)) (nm_r (nI_1 i) ih))
theorem ey_plain (hTr : et_Tr dp b_there b_parent) {j e g : Nat} (hT : T ≤ 12) (hA : er_TokA T ka aa va b_kinds b_attributes b_numbers) (hj : j < T) (hκ : ka j < 4) (he : et_th b_there e = true) (hg : g < 4)
    (h : post (nI (ef_pl (et_R dp b_parent b_rules (6 * g + aa j) e) (ef_sm (b_sets (6 * e + aa j)) (ka j) (va j))))) : wpY_plain post (g_tokens, g_serial, b_there, b_parent, b_name, b_alias, b_serials, b_sets, b_rules, b_kinds, b_attributes, b_numbers, b_stack, b_searched, b_gone, b_finds) (nI j) (nI e) (nI g) := by
  unfold wpY_plain
  obtain ⟨k7, kk, ha, hv⟩ := hA j hj
  obtain ⟨a6, ka'⟩ := ha hκ
  have cj : (nI j).toNatClampNeg = j := nI_clamp (by omega)
  refine ⟨vp_in_nI (by omega) (by decide), ?_⟩
  rw [cj, ka']
  refine ey_mayRead hTr he hg a6 ?_
  unfold ef_pl at h
  cases z : et_R dp b_parent b_rules (6 * g + aa j) e
  · rw [z, if_pos rfl] at h
    exact br_t rfl h
  · rw [z, if_neg (by decide)] at h
    refine br_f em_10 ⟨17, ey_plain_23 hT hA hj hκ (et_th_lt he) ?_ 16 0 (by omega)⟩
    cases y : ef_sm (b_sets (6 * e + aa j)) (ka j) (va j)
    · rw [y, if_neg (by decide)] at h; rw [if_neg (by decide)]; exact h
    · rw [y, if_pos rfl] at h; rw [if_pos rfl]; exact h
end
end
section
/-! ===== filters: the two stacks ===== -/
def ef_op (κ x y : Nat) : Nat := if κ = 4 then (if x ≤ y then x else y) else (if x ≤ y then y else x)
/-- what a token makes of the stack of height h -/
def ef_st (κ h : Nat) (pl : Nat → Nat) (V : Nat → Nat → Nat) : Nat → Nat → Nat :=
  fun s e => if κ < 4 then (if s = h then pl e else V s e) else if κ = 6 then (if s + 1 = h then 2 - V s e else V s e) else (if s + 2 = h then ef_op κ (V s e) (V (s + 1) e) else V s e)
def ef_V (ka : Nat → Nat) (pl : Nat → Nat → Nat) (T : Nat) : Nat → Nat → Nat → Nat
  | 0 => fun _ _ => 0
  | d + 1 => ef_st (ka (T - (d + 1))) (ef_m ka (T - d)) (pl (T - (d + 1))) (ef_V ka pl T d)
theorem ef_V_s {ka : Nat → Nat} {pl : Nat → Nat → Nat} {T j : Nat} (hj : j < T) : ef_V ka pl T (T - j) = ef_st (ka j) (ef_m ka (j + 1)) (pl j) (ef_V ka pl T (T - (j + 1))) := by
  have e1 : T - j = (T - (j + 1)) + 1 := by omega
  have e2 : T - ((T - (j + 1)) + 1) = j := by omega
  have e3 : T - (T - (j + 1)) = j + 1 := by omega
  rw [e1]
  show ef_st (ka (T - ((T - (j + 1)) + 1))) (ef_m ka (T - (T - (j + 1)))) (pl (T - ((T - (j + 1)) + 1))) _ = _
  rw [e2, e3]
section
variable {κ h s e : Nat} {pl : Nat → Nat} {V : Nat → Nat → Nat}
theorem ef_st_l1 (hκ : κ < 4) : ef_st κ h pl V h e = pl e := by unfold ef_st; rw [if_pos hκ, if_pos rfl]
theorem ef_st_l2 (hκ : κ < 4) (hs : s ≠ h) : ef_st κ h pl V s e = V s e := by unfold ef_st; rw [if_pos hκ, if_neg hs]
theorem ef_st_n1 (hκ : κ = 6) (hs : s + 1 = h) : ef_st κ h pl V s e = 2 - V s e := by unfold ef_st; rw [if_neg (by omega), if_pos hκ, if_pos hs]
theorem ef_st_n2 (hκ : κ = 6) (hs : s + 1 ≠ h) : ef_st κ h pl V s e = V s e := by unfold ef_st; rw [if_neg (by omega), if_pos hκ, if_neg hs]
theorem ef_st_b1 (h4 : ¬ κ < 4) (h6 : ¬ κ = 6) (hs : s + 2 = h) : ef_st κ h pl V s e = ef_op κ (V s e) (V (s + 1) e) := by unfold ef_st; rw [if_neg h4, if_neg h6, if_pos hs]
theorem ef_st_b2 (h4 : ¬ κ < 4) (h6 : ¬ κ = 6) (hs : s + 2 ≠ h) : ef_st κ h pl V s e = V s e := by unfold ef_st; rw [if_neg h4, if_neg h6, if_neg hs]
end
def ef_X (t : Nat → Int32) (h : Nat) (V : Nat → Nat → Nat) (isT isF : Nat → Int64) : Prop := ∀ s, s < h → ∀ e, et_th t e = true → V s e ≤ 2 ∧ eb_t (isT s) e = decide (V s e = 2) ∧ eb_t (isF s) e = decide (V s e = 0)
def ef_Y (e h : Nat) (V : Nat → Nat → Nat) (st : Nat → Int32) : Prop := ∀ s, s < h → V s e ≤ 2 ∧ st s = nI (V s e)
theorem ef_pl_le (r s : Bool) : ef_pl r s ≤ 2 := by cases r <;> cases s <;> decide
theorem ef_pl_2 (r s : Bool) : (r && s) = decide (ef_pl r s = 2) := by cases r <;> cases s <;> decide
theorem ef_pl_0 (r s : Bool) : (r && !s) = decide (ef_pl r s = 0) := by cases r <;> cases s <;> decide
theorem ef_n2 : ∀ v, v < 3 → 2 - v ≤ 2 ∧ decide (v = 0) = decide (2 - v = 2) ∧ decide (v = 2) = decide (2 - v = 0) := by decide
theorem ef_o4 : ∀ x, x < 3 → ∀ y, y < 3 → ef_op 4 x y ≤ 2 ∧ (decide (x = 2) && decide (y = 2)) = decide (ef_op 4 x y = 2) ∧ (decide (x = 0) || decide (y = 0)) = decide (ef_op 4 x y = 0) := by decide
theorem ef_o5 : ∀ x, x < 3 → ∀ y, y < 3 → ef_op 5 x y ≤ 2 ∧ (decide (x = 2) || decide (y = 2)) = decide (ef_op 5 x y = 2) ∧ (decide (x = 0) && decide (y = 0)) = decide (ef_op 5 x y = 0) := by decide
section
variable {t : Nat → Int32} {κ h : Nat} {pl : Nat → Nat} {V : Nat → Nat → Nat} {isT isF : Nat → Int64}
theorem ef_X_leaf (hX : ef_X t h V isT isF) (hκ : κ < 4) {r s : Nat → Bool} {a b : Int64} (hp : ∀ e, et_th t e = true → pl e = ef_pl (r e) (s e)) (ha : ∀ e, et_th t e = true → eb_t a e = (r e && s e)) (hb : ∀ e, et_th t e = true → eb_t b e = (r e && !s e)) :
    ef_X t (h + 1) (ef_st κ h pl V) (vp_updL isT h a) (vp_updL isF h b) := by
  intro i hi e he
  by_cases z : i = h
  · subst z
    rw [ef_st_l1 hκ, pk_uLs, pk_uLs, hp e he, ha e he, hb e he]
    exact ⟨ef_pl_le _ _, ef_pl_2 _ _, ef_pl_0 _ _⟩
  · rw [ef_st_l2 hκ z, pk_uLn z, pk_uLn z]
    exact hX i (by omega) e he
theorem ef_X_not (hX : ef_X t (h + 1) V isT isF) (hκ : κ = 6) : ef_X t (h + 1) (ef_st κ (h + 1) pl V) (vp_updL isT h (isF h)) (vp_updL isF h (isT h)) := by
  intro i hi e he
  obtain ⟨a, b, c⟩ := hX i hi e he
  by_cases z : i = h
  · subst z
    obtain ⟨x, y, w⟩ := ef_n2 (V i e) (by omega)
    rw [ef_st_n1 hκ rfl, pk_uLs, pk_uLs, b, c]
    exact ⟨x, y, w⟩
  · rw [ef_st_n2 hκ (by omega), pk_uLn z, pk_uLn z]
    exact ⟨a, b, c⟩
theorem ef_X_bin (hX : ef_X t (h + 2) V isT isF) (hκ : κ = 4 ∨ κ = 5) :
    ef_X t (h + 1) (ef_st κ (h + 2) pl V) (vp_updL isT h (if κ = 4 then isT h &&& isT (h + 1) else isT h ||| isT (h + 1))) (vp_updL isF h (if κ = 4 then isF h ||| isF (h + 1) else isF h &&& isF (h + 1))) := by
  intro i hi e he
  obtain ⟨a, b, c⟩ := hX i (by omega) e he
  by_cases z : i = h
  · subst z
    obtain ⟨a', b', c'⟩ := hX (i + 1) (by omega) e he
    rw [ef_st_b1 (by omega) (by omega) rfl, pk_uLs, pk_uLs]
    rcases hκ with rfl | rfl
    · rw [if_pos rfl, if_pos rfl, eb_and, eb_or, b, b', c, c']
      exact ef_o4 _ (by omega) _ (by omega)
    · rw [if_neg (by decide), if_neg (by decide), eb_and, eb_or, b, b', c, c']
      exact ef_o5 _ (by omega) _ (by omega)
  · rw [ef_st_b2 (by omega) (by omega) (by omega), pk_uLn z, pk_uLn z]
    exact ⟨a, b, c⟩
theorem ef_Y_leaf {e p : Nat} {st : Nat → Int32} (hY : ef_Y e h V st) (hκ : κ < 4) (hp : pl e = p) (h2 : p ≤ 2) : ef_Y e (h + 1) (ef_st κ h pl V) (upd st h (nI p)) := by
  intro i hi
  by_cases z : i = h
  · subst z; rw [ef_st_l1 hκ, pk_us, hp]; exact ⟨h2, rfl⟩
  · rw [ef_st_l2 hκ z, pk_un z]; exact hY i (by omega)
theorem ef_Y_not {e : Nat} {st : Nat → Int32} (hY : ef_Y e (h + 1) V st) (hκ : κ = 6) : ef_Y e (h + 1) (ef_st κ (h + 1) pl V) (upd st h (2 - st h)) := by
  intro i hi
  obtain ⟨a, b⟩ := hY i hi
  by_cases z : i = h
  · subst z
    rw [ef_st_n1 hκ rfl, pk_us, b, show (2 : Int32) = nI 2 from rfl, pk_sub a]
    exact ⟨by omega, rfl⟩
  · rw [ef_st_n2 hκ (by omega), pk_un z]; exact ⟨a, b⟩
theorem ef_op_le {κ x y : Nat} (hx : x ≤ 2) (hy : y ≤ 2) : ef_op κ x y ≤ 2 := by
  unfold ef_op
  by_cases a : κ = 4 <;> by_cases b : x ≤ y
  · rw [if_pos a, if_pos b]; exact hx
  · rw [if_pos a, if_neg b]; exact hy
  · rw [if_neg a, if_pos b]; exact hy
  · rw [if_neg a, if_neg b]; exact hx
theorem ef_Y_bin {e : Nat} {st st' : Nat → Int32} (hY : ef_Y e (h + 2) V st) (h4 : ¬ κ < 4) (h6 : ¬ κ = 6) (h1 : st' h = nI (ef_op κ (V h e) (V (h + 1) e))) (h2 : ∀ i, i ≠ h → st' i = st i) : ef_Y e (h + 1) (ef_st κ (h + 2) pl V) st' := by
  intro i hi
  by_cases z : i = h
  · subst z
    rw [ef_st_b1 h4 h6 rfl, h1]
    exact ⟨ef_op_le (hY i (by omega)).1 (hY (i + 1) (by omega)).1, rfl⟩
  · rw [ef_st_b2 h4 h6 (by omega), h2 i z]; exact hY i (by omega)
end
theorem em_m1 (n : Nat) : nI (n + 1) - 1 = nI n := nI_pred n
section
variable {f_there f_isAlias f_found : Int64} {f_serial f_tokens : Int32} {a_parents a_names a_aliases a_serials a_known a_kinds a_attributes a_values : Nat → Int32} {a_under a_below a_having a_any a_yes a_no a_open a_isTrue a_isFalse : Nat → Int64}
variable {post : Int64 → SX → Prop} {t q ru sets : Nat → Int32} {dp : Nat → Nat} {ka aa va : Nat → Nat} {T : Nat}
theorem ex_both {post : SX → Prop} {n κ : Nat} {z0 : Int32} (hn : n + 1 < 12) (hz : (κ = 4 ∧ z0 = 1) ∨ (¬ κ = 4 ∧ z0 = 0))
    (H : post (f_there, f_isAlias, f_serial, f_tokens, f_found, a_parents, a_names, a_aliases, a_serials, a_under, a_below, a_having, a_any, a_yes, a_no, a_open, a_known, a_kinds, a_attributes, a_values, vp_updL a_isTrue n (if κ = 4 then a_isTrue n &&& a_isTrue (n + 1) else a_isTrue n ||| a_isTrue (n + 1)), vp_updL a_isFalse n (if κ = 4 then a_isFalse n ||| a_isFalse (n + 1) else a_isFalse n &&& a_isFalse (n + 1)))) : wpX_both post (f_there, f_isAlias, f_serial, f_tokens, f_found, a_parents, a_names, a_aliases, a_serials, a_under, a_below, a_having, a_any, a_yes, a_no, a_open, a_known, a_kinds, a_attributes, a_values, a_isTrue, a_isFalse) z0 (nI (n + 1)) := by
  unfold wpX_both
  rw [em_m1]
  have c0 : (nI n).toNatClampNeg = n := nI_clamp (by omega)
  have c1 : (nI (n + 1)).toNatClampNeg = n + 1 := nI_clamp (by omega)
  have v0 : vp_in (nI n) 12 := vp_in_nI (by omega) (by decide)
  have v1 : vp_in (nI (n + 1)) 12 := vp_in_nI hn (by decide)
  rcases hz with ⟨rfl, rfl⟩ | ⟨h4, rfl⟩
  · rw [if_pos rfl, if_pos rfl] at H
    exact br_f em_10 ⟨v0, v1, v0, nm_r (e' := vp_updL a_isTrue n (a_isTrue n &&& a_isTrue (n + 1))) (by rw [c0, c1]) ⟨v0, v1, v0, nm_r (e' := vp_updL a_isFalse n (a_isFalse n ||| a_isFalse (n + 1))) (by rw [c0, c1]) H⟩⟩
  · rw [if_neg h4, if_neg h4] at H
    exact br_t rfl ⟨v0, v1, v0, nm_r (e' := vp_updL a_isTrue n (a_isTrue n ||| a_isTrue (n + 1))) (by rw [c0, c1]) ⟨v0, v1, v0, nm_r (e' := vp_updL a_isFalse n (a_isFalse n &&& a_isFalse (n + 1))) (by rw [c0, c1]) H⟩⟩
/-- the set of a plain token -/
theorem ex_leafset (hHav : er_Hav t sets a_having) {a κ ν f g : Nat} (ha : a < 6) {s : Int64} (hs : ∀ e, eb_t s e = true ↔ ∃ v, f ≤ v ∧ v ≤ g ∧ eb_t (a_having (16 * a + v)) e = true) (hg : g < 16) (hc : ∀ v, v < 16 → (ef_cd κ ν v = true ↔ f ≤ v ∧ v ≤ g)) :
    ∀ e, et_th t e = true → eb_t s e = ef_sm (sets (6 * e + a)) κ ν := by
  intro e he
  apply Bool.eq_iff_iff.mpr
  rw [hs e]
  unfold ef_sm
  rw [ef_or_i]
  constructor
  · rintro ⟨v, x, y, z⟩
    rw [hHav a ha v (by omega), he, Bool.true_and] at z
    exact ⟨v, by omega, by rw [z, (hc v (by omega)).mpr ⟨x, y⟩]; rfl⟩
  · rintro ⟨v, x, y⟩
    rw [Bool.and_eq_true] at y
    have := (hc v x).mp y.2
    exact ⟨v, this.1, this.2, by rw [hHav a ha v x, he, y.1]; rfl⟩
theorem ex_solve_9 (hTr : et_Tr dp t q) (hU : er_Und t q a_under) (hR : er_Rul t ru a_yes a_no) (hHav : er_Hav t sets a_having) (hAny : er_Any a_having a_any) (hT : T ≤ 12) (hA : er_TokA T ka aa va a_kinds a_attributes a_values) (hF : ef_F ka T) {g : Nat} (hg : g < 4)
    {VV : Nat → Nat → Nat → Nat} {pl : Nat → Nat → Nat} (hV : ∀ j, j < T → VV j = ef_st (ka j) (ef_m ka (j + 1)) (pl j) (VV (j + 1))) (hpl : ∀ j e, pl j e = ef_pl (et_R dp q ru (6 * g + aa j) e) (ef_sm (sets (6 * e + aa j)) (ka j) (va j)))
    (H : ∀ r kn op isT isF, er_Opn dp t q ru kn op → (∀ e, et_th t e = true → eb_t r e = decide (VV 0 0 e = 2)) → post r (f_there, f_isAlias, f_serial, f_tokens, f_found, a_parents, a_names, a_aliases, a_serials, a_under, a_below, a_having, a_any, a_yes, a_no, op, kn, a_kinds, a_attributes, a_values, isT, isF)) :
    ∀ j kn op isT isF, j ≤ T → er_Opn dp t q ru kn op → ef_X t (ef_m ka j) (VV j) isT isF → wX_solve_9 post (nI g) (j + 1) (nI (ef_m ka j)) (nI j + (-1)) f_there f_isAlias f_serial f_tokens f_found a_parents a_names a_aliases a_serials a_under a_below a_having a_any a_yes a_no op kn a_kinds a_attributes a_values isT isF := by
  intro j
  induction j with
  | zero =>
    intro kn op isT isF hj hO hX
    exact br_t (by decide) (H _ kn op isT isF hO (fun e he => (hX 0 (by show 0 < 1; decide) e he).2.1))
  | succ j ih =>
    intro kn op isT isF hj hO hX
    have cj : (nI j).toNatClampNeg = j := nI_clamp (by omega)
    have vj : vp_in (nI j) 12 := vp_in_nI (by omega) (by decide)
    obtain ⟨k7, kk, ha, hv⟩ := hA j (by omega)
    have m1 := hF.1 j (by omega)
    have mle := ef_F_le hF (T - j) j (by omega)
    have mle' := ef_F_le hF (T - (j + 1)) (j + 1) (by omega)
    have hVj := hV j (by omega)
    rw [pk_m1]
    refine br_f (nI_pos (by omega)) ⟨vj, nm_r (e' := nI (ka j)) (by rw [cj, kk]) ?_⟩
    by_cases h4 : ka j < 4
    · obtain ⟨a6, aj⟩ := ha h4
      have hm := ef_m_leaf hF (show j < T by omega) h4
      have e1 : (6 * nI g) + nI (aa j) = nI (6 * g + aa j) := by rw [show (6 : Int32) = nI 6 from rfl, pk_mul, nI_add]
      refine br_f (nI_ge (b := 4) h4 (by decide)) ⟨vj, nm_r (e' := nI (aa j)) (by rw [cj, aj]) ?_⟩
      rw [e1]
      refine ex_readable hTr hU hR hO (by omega) (fun s kn' op' hs hO' => ?_)
      have ch : (nI (ef_m ka (j + 1))).toNatClampNeg = ef_m ka (j + 1) := nI_clamp (by omega)
      have vh : vp_in (nI (ef_m ka (j + 1))) 12 := vp_in_nI (by omega) (by decide)
      have L : ∀ z0, (∀ e, et_th t e = true → eb_t z0 e = ef_sm (sets (6 * e + aa j)) (ka j) (va j)) → wX_solve_102 post (wX_solve_9 post (nI g) (j + 1)) (nI g) (nI (ef_m ka (j + 1))) (nI j) s z0 f_there f_isAlias f_serial f_tokens f_found a_parents a_names a_aliases a_serials a_under a_below a_having a_any a_yes a_no op' kn' a_kinds a_attributes a_values isT isF := by
        intro z0 hz
        refine ⟨vh, nm_r (e' := vp_updL isT (ef_m ka (j + 1)) (s &&& z0)) (by rw [ch]) (nm_r (nI_1 _) ⟨vh, nm_r (e' := vp_updL isF (ef_m ka (j + 1)) (s &&& (z0 ^^^ (-1)))) (by rw [ch]) (nm_e ?_)⟩)⟩
        rw [← hm]
        refine ih kn' op' _ _ (by omega) hO' ?_
        rw [hm, hVj]
        refine ef_X_leaf hX h4 (r := fun e => et_R dp q ru (6 * g + aa j) e) (s := fun e => ef_sm (sets (6 * e + aa j)) (ka j) (va j)) (fun e he => hpl j e) (fun e he => ?_) (fun e he => ?_)
        · rw [eb_and, hs e he, hz e he]
        · rw [eb_and, hs e he, eb_not _ (by have := et_th_lt he; omega), hz e he]
      have hc : ka j = 0 ∨ ka j = 1 ∨ ka j = 2 ∨ ka j = 3 := by omega
      rcases hc with y | y | y | y
      · rw [y] at L ⊢
        refine br_t rfl ⟨vp_in_nI a6 (by decide), ?_⟩
        rw [nI_clamp (by omega)]
        refine L _ (ex_leafset hHav a6 (f := 0) (g := 15) (fun e => ?_) (by decide) (fun v hv => ⟨fun _ => ⟨by omega, by omega⟩, fun _ => rfl⟩))
        rw [hAny _ a6 e]
        exact ⟨fun ⟨v, x, z⟩ => ⟨v, by omega, by omega, z⟩, fun ⟨v, _, x, z⟩ => ⟨v, by omega, z⟩⟩
      · obtain ⟨v16, jv⟩ := hv (by omega) h4
        rw [y] at L ⊢
        refine br_f (by decide) (br_f (by decide) ⟨vj, br_f (by decide) ⟨vj, ?_⟩⟩)
        rw [cj, jv]
        refine ex_within a6 (Nat.le_refl _) v16 (fun s' hs' => L s' (ex_leafset hHav a6 hs' v16 (fun v hv => ?_)))
        unfold ef_cd
        rw [show (decide (1 = 0) || decide (1 = 1) && decide (v = va j) || decide (1 = 2) && decide (va j ≤ v) || decide (1 = 3) && decide (v ≤ va j)) = decide (v = va j) by cases decide (v = va j) <;> rfl]
        rw [decide_eq_true_iff]
        omega
      · obtain ⟨v16, jv⟩ := hv (by omega) h4
        rw [y] at L ⊢
        refine br_f (by decide) (br_f (by decide) ⟨vj, br_t rfl ?_⟩)
        rw [cj, jv]
        refine ex_within (g := 15) a6 (by omega) (by decide) (fun s' hs' => L s' (ex_leafset hHav a6 hs' (by decide) (fun v hv => ?_)))
        unfold ef_cd
        rw [show (decide (2 = 0) || decide (2 = 1) && decide (v = va j) || decide (2 = 2) && decide (va j ≤ v) || decide (2 = 3) && decide (v ≤ va j)) = decide (va j ≤ v) by cases decide (va j ≤ v) <;> rfl]
        rw [decide_eq_true_iff]
        omega
      · obtain ⟨v16, jv⟩ := hv (by omega) h4
        rw [y] at L ⊢
        refine br_f (by decide) (br_t rfl (br_f (by decide) ⟨vj, ?_⟩))
        rw [cj, jv]
        refine ex_within (f := 0) a6 (by omega) v16 (fun s' hs' => L s' (ex_leafset hHav a6 hs' v16 (fun v hv => ?_)))
        unfold ef_cd
        rw [show (decide (3 = 0) || decide (3 = 1) && decide (v = va j) || decide (3 = 2) && decide (va j ≤ v) || decide (3 = 3) && decide (v ≤ va j)) = decide (v ≤ va j) by cases decide (v ≤ va j) <;> rfl]
        rw [decide_eq_true_iff]
        omega
    · refine br_t (nI_le (a := 4) (by omega) (by omega)) ?_
      by_cases h6 : ka j = 6
      · have hm := ef_m_not (ka := ka) h6
        obtain ⟨h, eh⟩ : ∃ h, ef_m ka j = h + 1 := ⟨ef_m ka j - 1, by omega⟩
        rw [hm, eh, em_m1]
        rw [hm, eh] at hX
        have ch : (nI h).toNatClampNeg = h := nI_clamp (by omega)
        have vh : vp_in (nI h) 12 := vp_in_nI (by omega) (by decide)
        refine br_t (by rw [h6]; rfl) ⟨vh, nm_r (e' := isT h) (by rw [ch]) ⟨vh, vh, nm_r (e' := vp_updL isT h (isF h)) (by rw [ch]) ⟨vh, nm_r (e' := vp_updL isF h (isT h)) (by rw [ch]) (nm_e ?_)⟩⟩⟩
        rw [← eh]
        refine ih kn op _ _ (by omega) hO ?_
        rw [hVj, hm, eh]
        exact ef_X_not hX h6
      · have hm := ef_m_bin (ka := ka) h4 h6
        obtain ⟨h, eh⟩ : ∃ h, ef_m ka j = h + 1 := ⟨ef_m ka j - 1, by omega⟩
        rw [hm, eh]
        rw [hm, eh] at hX
        have h45 : ka j = 4 ∨ ka j = 5 := by omega
        have G : ∀ z0, ((ka j = 4 ∧ z0 = 1) ∨ (¬ ka j = 4 ∧ z0 = 0)) → wX_solve_197 post (wX_solve_9 post (nI g) (j + 1)) (nI g) (nI (h + 1)) (nI j) z0 f_there f_isAlias f_serial f_tokens f_found a_parents a_names a_aliases a_serials a_under a_below a_having a_any a_yes a_no op kn a_kinds a_attributes a_values isT isF := by
          intro z0 hz
          refine ex_both (κ := ka j) (by omega) hz (nm_e ?_)
          rw [← eh]
          refine ih kn op _ _ (by omega) hO ?_
          rw [hVj, hm, eh]
          exact ef_X_bin hX h45
        refine br_f (fun x => h6 ((nI_eq (b := 6) (by omega) (by decide)).mp x)) (nm_r (pk_m1 (h + 1)) ?_)
        by_cases k4 : ka j = 4
        · exact br_t (by rw [k4]; rfl) (G 1 (Or.inl ⟨k4, rfl⟩))
        · exact br_f (fun x => k4 ((nI_eq (b := 4) (by omega) (by decide)).mp x)) (G 0 (Or.inr ⟨k4, rfl⟩))
theorem ex_solve (hTr : et_Tr dp t q) (hU : er_Und t q a_under) (hR : er_Rul t ru a_yes a_no) (hHav : er_Hav t sets a_having) (hAny : er_Any a_having a_any) (hO : er_Opn dp t q ru a_known a_open) (hT : T ≤ 12) (ht : f_tokens = nI T) (hA : er_TokA T ka aa va a_kinds a_attributes a_values) (hF : ef_F ka T) {g : Nat} (hg : g < 4)
    {pl : Nat → Nat → Nat} (hpl : ∀ j e, pl j e = ef_pl (et_R dp q ru (6 * g + aa j) e) (ef_sm (sets (6 * e + aa j)) (ka j) (va j)))
    (H : ∀ r kn op isT isF, er_Opn dp t q ru kn op → (∀ e, et_th t e = true → eb_t r e = decide (ef_V ka pl T T 0 e = 2)) → post r (f_there, f_isAlias, f_serial, f_tokens, f_found, a_parents, a_names, a_aliases, a_serials, a_under, a_below, a_having, a_any, a_yes, a_no, op, kn, a_kinds, a_attributes, a_values, isT, isF)) : wpX_solve post (f_there, f_isAlias, f_serial, f_tokens, f_found, a_parents, a_names, a_aliases, a_serials, a_under, a_below, a_having, a_any, a_yes, a_no, a_open, a_known, a_kinds, a_attributes, a_values, a_isTrue, a_isFalse) (nI g) := by
  unfold wpX_solve
  have L := ex_solve_9 hTr hU hR hHav hAny hT hA hF hg (VV := fun j => ef_V ka pl T (T - j)) (pl := pl) (fun j hj => ef_V_s hj) hpl (post := post) H T a_known a_open a_isTrue a_isFalse (Nat.le_refl T) hO (by rw [hF.2]; intro s hs; omega)
  rw [hF.2] at L
  exact nm_r (e' := nI T + (-1)) (by rw [ht, Int32.sub_eq_add_neg]) ⟨T + 1, L⟩
end
section
variable {g_tokens g_serial : Int32} {b_there b_parent b_name b_alias b_serials b_sets b_rules b_kinds b_attributes b_numbers b_stack b_searched b_gone b_finds : Nat → Int32}
variable {post : Int32 → SY → Prop} {dp : Nat → Nat} {ka aa va : Nat → Nat} {T : Nat}
theorem ey_passes_10 (hTr : et_Tr dp b_there b_parent) (hT : T ≤ 12) (hA : er_TokA T ka aa va b_kinds b_attributes b_numbers) (hF : ef_F ka T) {g e : Nat} (hg : g < 4) (he : et_th b_there e = true)
    {VV : Nat → Nat → Nat → Nat} {pl : Nat → Nat → Nat} (hV : ∀ j, j < T → VV j = ef_st (ka j) (ef_m ka (j + 1)) (pl j) (VV (j + 1))) (hpl : ∀ j e, pl j e = ef_pl (et_R dp b_parent b_rules (6 * g + aa j) e) (ef_sm (b_sets (6 * e + aa j)) (ka j) (va j)))
    (H : ∀ st, post (em_b (decide (VV 0 0 e = 2))) (g_tokens, g_serial, b_there, b_parent, b_name, b_alias, b_serials, b_sets, b_rules, b_kinds, b_attributes, b_numbers, st, b_searched, b_gone, b_finds)) :
    ∀ j st, j ≤ T → ef_Y e (ef_m ka j) (VV j) st → wY_passes_10 post (nI e) (nI g) g_tokens g_serial (j + 1) (nI (ef_m ka j)) (nI j + (-1)) b_there b_parent b_name b_alias b_serials b_sets b_rules b_kinds b_attributes b_numbers st b_searched b_gone b_finds := by
  intro j
  induction j with
  | zero =>
    intro st hj hY
    refine br_t (by decide) ?_
    obtain ⟨a, b⟩ := hY 0 (by show 0 < 1; decide)
    have := H st
    by_cases z : VV 0 0 e = 2
    · rw [decide_eq_true z] at this
      exact br_t (by rw [b, z]; rfl) this
    · rw [decide_eq_false z] at this
      exact br_f (fun x => z ((nI_eq (b := 2) (by omega) (by decide)).mp (b.symm.trans x))) this
  | succ j ih =>
    intro st hj hY
    have cj : (nI j).toNatClampNeg = j := nI_clamp (by omega)
    have vj : vp_in (nI j) 12 := vp_in_nI (by omega) (by decide)
    obtain ⟨k7, kk, ha, hv⟩ := hA j (by omega)
    have m1 := hF.1 j (by omega)
    have mle := ef_F_le hF (T - j) j (by omega)
    have mle' := ef_F_le hF (T - (j + 1)) (j + 1) (by omega)
    have hVj := hV j (by omega)
    rw [pk_m1]
    refine br_f (nI_pos (by omega)) ⟨vj, ?_⟩
    rw [cj, kk]
    by_cases h4 : ka j < 4
    · have hm := ef_m_leaf hF (show j < T by omega) h4
      have ch : (nI (ef_m ka (j + 1))).toNatClampNeg = ef_m ka (j + 1) := nI_clamp (by omega)
      refine br_f (nI_ge (b := 4) h4 (by decide)) (ey_plain hTr hT hA (by omega) h4 he hg ⟨vp_in_nI (by omega) (by decide), nm_r (e' := upd st (ef_m ka (j + 1)) (nI (pl j e))) (by rw [ch, hpl]) (nm_r (nI_1 _) (nm_e ?_))⟩)
      rw [← hm]
      refine ih _ (by omega) ?_
      rw [hm, hVj]
      exact ef_Y_leaf hY h4 rfl (by rw [hpl]; exact ef_pl_le _ _)
    · refine br_t (nI_le (a := 4) (by omega) (by omega)) ⟨vj, ?_⟩
      by_cases h6 : ka j = 6
      · have hm := ef_m_not (ka := ka) h6
        obtain ⟨h, eh⟩ : ∃ h, ef_m ka j = h + 1 := ⟨ef_m ka j - 1, by omega⟩
        rw [hm, eh, em_m1]
        rw [hm, eh] at hY
        have ch : (nI h).toNatClampNeg = h := nI_clamp (by omega)
        have vh : vp_in (nI h) 12 := vp_in_nI (by omega) (by decide)
        refine br_t (by rw [h6]; rfl) ⟨vh, vh, nm_r (e' := upd st h (2 - st h)) (by rw [ch]) (nm_e ?_)⟩
        rw [← eh]
        refine ih _ (by omega) ?_
        rw [hVj, hm, eh]
        exact ef_Y_not hY h6
      · have hm := ef_m_bin (ka := ka) h4 h6
        obtain ⟨h, eh⟩ : ∃ h, ef_m ka j = h + 1 := ⟨ef_m ka j - 1, by omega⟩
        rw [hm, eh]
        rw [hm, eh] at hY
        have c0 : (nI h).toNatClampNeg = h := nI_clamp (by omega)
        have c1 : (nI (h + 1)).toNatClampNeg = h + 1 := nI_clamp (by omega)
        have v0 : vp_in (nI h) 12 := vp_in_nI (by omega) (by decide)
        have v1 : vp_in (nI (h + 1)) 12 := vp_in_nI (by omega) (by decide)
        obtain ⟨l0, s0⟩ := hY h (by omega)
        obtain ⟨l1, s1⟩ := hY (h + 1) (by omega)
        have E : ∀ st', st' h = nI (ef_op (ka j) (VV (j + 1) h e) (VV (j + 1) (h + 1) e)) → (∀ i, i ≠ h → st' i = st i) → wY_passes_10 post (nI e) (nI g) g_tokens g_serial (j + 1) (nI (h + 1)) (nI j + (-1)) b_there b_parent b_name b_alias b_serials b_sets b_rules b_kinds b_attributes b_numbers st' b_searched b_gone b_finds := by
          intro st' g1 g2
          rw [← eh]
          refine ih _ (by omega) ?_
          rw [hVj, hm, eh]
          exact ef_Y_bin hY h4 h6 g1 g2
        have Set : wY_passes_10 post (nI e) (nI g) g_tokens g_serial (j + 1) (nI (h + 1)) (nI j + (-1)) b_there b_parent b_name b_alias b_serials b_sets b_rules b_kinds b_attributes b_numbers (upd st h (st (h + 1))) b_searched b_gone b_finds ∨ ¬ ef_op (ka j) (VV (j + 1) h e) (VV (j + 1) (h + 1) e) = VV (j + 1) (h + 1) e := by
          by_cases z : ef_op (ka j) (VV (j + 1) h e) (VV (j + 1) (h + 1) e) = VV (j + 1) (h + 1) e
          · exact Or.inl (E _ (by rw [pk_us, s1, z]) (fun i hi => pk_un hi))
          · exact Or.inr z
        have Keep : wY_passes_10 post (nI e) (nI g) g_tokens g_serial (j + 1) (nI (h + 1)) (nI j + (-1)) b_there b_parent b_name b_alias b_serials b_sets b_rules b_kinds b_attributes b_numbers st b_searched b_gone b_finds ∨ ¬ ef_op (ka j) (VV (j + 1) h e) (VV (j + 1) (h + 1) e) = VV (j + 1) h e := by
          by_cases z : ef_op (ka j) (VV (j + 1) h e) (VV (j + 1) (h + 1) e) = VV (j + 1) h e
          · exact Or.inl (E _ (by rw [s0, z]) (fun i hi => rfl))
          · exact Or.inr z
        refine br_f (fun x => h6 ((nI_eq (b := 6) (by omega) (by decide)).mp x)) (nm_r (pk_m1 (h + 1)) ⟨v1, ?_⟩)
        rw [em_m1]
        refine ⟨v0, ?_⟩
        rw [c0, c1, s0, s1]
        by_cases hle : VV (j + 1) h e ≤ VV (j + 1) (h + 1) e
        · refine br_t (nI_le hle (by omega)) ⟨vj, ?_⟩
          rw [cj, kk]
          by_cases k4 : ka j = 4
          · refine br_t (by rw [k4]; rfl) (br_f (by decide) (nm_e ?_))
            rcases Keep with y | y
            · exact y
            · exact absurd (by unfold ef_op; rw [if_pos k4, if_pos hle]) y
          · refine br_f (fun x => k4 ((nI_eq (b := 4) (by omega) (by decide)).mp x)) (br_t rfl ⟨v1, ?_⟩)
            rw [em_m1]
            refine ⟨v0, nm_r (e' := upd st h (st (h + 1))) (by rw [c0, c1]) (nm_e ?_)⟩
            rcases Set with y | y
            · exact y
            · exact absurd (by unfold ef_op; rw [if_neg k4, if_pos hle]) y
        · refine br_f (nI_ge (by omega) (by omega)) ⟨vj, ?_⟩
          rw [cj, kk]
          by_cases k4 : ka j = 4
          · refine br_t (by rw [k4]; rfl) (br_t rfl ⟨v1, ?_⟩)
            rw [em_m1]
            refine ⟨v0, nm_r (e' := upd st h (st (h + 1))) (by rw [c0, c1]) (nm_e ?_)⟩
            rcases Set with y | y
            · exact y
            · exact absurd (by unfold ef_op; rw [if_pos k4, if_neg hle]) y
          · refine br_f (fun x => k4 ((nI_eq (b := 4) (by omega) (by decide)).mp x)) (br_f (by decide) (nm_e ?_))
            rcases Keep with y | y
            · exact y
            · exact absurd (by unfold ef_op; rw [if_neg k4, if_neg hle]) y
theorem ey_passes (hTr : et_Tr dp b_there b_parent) (hT : T ≤ 12) (ht : g_tokens = nI T) (hA : er_TokA T ka aa va b_kinds b_attributes b_numbers) (hF : ef_F ka T) {g e : Nat} (hg : g < 4) (he : et_th b_there e = true)
    {pl : Nat → Nat → Nat} (hpl : ∀ j e, pl j e = ef_pl (et_R dp b_parent b_rules (6 * g + aa j) e) (ef_sm (b_sets (6 * e + aa j)) (ka j) (va j)))
    (H : ∀ st, post (em_b (decide (ef_V ka pl T T 0 e = 2))) (g_tokens, g_serial, b_there, b_parent, b_name, b_alias, b_serials, b_sets, b_rules, b_kinds, b_attributes, b_numbers, st, b_searched, b_gone, b_finds)) : wpY_passes post (g_tokens, g_serial, b_there, b_parent, b_name, b_alias, b_serials, b_sets, b_rules, b_kinds, b_attributes, b_numbers, b_stack, b_searched, b_gone, b_finds) (nI e) (nI g) := by
  unfold wpY_passes
  have L := ey_passes_10 hTr hT hA hF hg he (VV := fun j => ef_V ka pl T (T - j)) (pl := pl) (fun j hj => ef_V_s hj) hpl (post := post) H T b_stack (Nat.le_refl T) (by rw [hF.2]; intro s hs; omega)
  rw [hF.2] at L
  exact nm_r (e' := nI T + (-1)) (by rw [ht, Int32.sub_eq_add_neg]) ⟨T + 1, L⟩
end
end
section
/-! ===== searches: aliases replaced ===== -/
/-- what is searched for a base and a scope -/
def eg_M (dp : Nat → Nat) (t q : Nat → Int32) (b sc i : Nat) : Bool := et_th t i && (if sc = 1 then decide (q i = nI b) else (decide (i = b) || (decide (sc = 2) && et_B dp q i b)))
theorem eg_M_th {dp : Nat → Nat} {t q : Nat → Int32} {b sc i : Nat} (h : eg_M dp t q b sc i = true) : et_th t i = true := by
  unfold eg_M at h; rw [Bool.and_eq_true] at h; exact h.1
/-- what alias a brings -/
def eg_K (dp : Nat → Nat) (t q l : Nat → Int32) (sc a j : Nat) : Prop := ∃ b, b < 48 ∧ et_ld t l 48 (nI a) = nI b ∧ eg_M dp t q b sc j = true
/-- all that is reached: the least set -/
def eg_C (dp : Nat → Nat) (t q l : Nat → Int32) (S0 : Nat → Bool) (fr sc i : Nat) : Prop :=
  ∀ P : Nat → Prop, (∀ i, S0 i = true → P i) → (∀ a, P a → et_al t l a = true → a ≠ fr → ∀ j, eg_K dp t q l sc a j → P j) → P i
def eg_F (dp : Nat → Nat) (t q l : Nat → Int32) (S0 : Nat → Bool) (fr sc i : Nat) : Prop := eg_C dp t q l S0 fr sc i ∧ ¬ (et_al t l i = true ∧ i ≠ fr)
section
variable {dp : Nat → Nat} {t q l : Nat → Int32} {S0 : Nat → Bool} {fr sc : Nat}
theorem eg_C_0 {i : Nat} (h : S0 i = true) : eg_C dp t q l S0 fr sc i := fun P h1 _ => h1 i h
theorem eg_C_s {a j : Nat} (h : eg_C dp t q l S0 fr sc a) (ha : et_al t l a = true) (hf : a ≠ fr) (hk : eg_K dp t q l sc a j) : eg_C dp t q l S0 fr sc j := fun P h1 h2 => h2 a (h P h1 h2) ha hf j hk
theorem eg_C_th (h0 : ∀ i, S0 i = true → et_th t i = true) {i : Nat} (h : eg_C dp t q l S0 fr sc i) : et_th t i = true :=
  h (fun i => et_th t i = true) h0 (fun a _ _ _ j ⟨b, _, _, hm⟩ => eg_M_th hm)
def eg_Y (dp : Nat → Nat) (t q l : Nat → Int32) (S0 : Nat → Bool) (fr sc : Nat) (S G : Nat → Bool) : Prop :=
  (∀ i, S0 i = true → S i = true) ∧ (∀ i, S i = true → eg_C dp t q l S0 fr sc i) ∧ (∀ a, G a = true → S a = true ∧ et_al t l a = true ∧ a ≠ fr) ∧ ∀ a, G a = true → ∀ j, eg_K dp t q l sc a j → S j = true
theorem eg_Y_end {S G : Nat → Bool} (h : eg_Y dp t q l S0 fr sc S G) (hc : ∀ a, S a = true → et_al t l a = true → a ≠ fr → G a = true) (i : Nat) : (S i && !G i) = true ↔ eg_F dp t q l S0 fr sc i := by
  obtain ⟨h1, h2, h3, h4⟩ := h
  rw [Bool.and_eq_true]
  constructor
  · rintro ⟨a, b⟩
    refine ⟨h2 i a, fun ⟨c, d⟩ => ?_⟩
    rw [hc i a c d] at b
    exact absurd b (by decide)
  · rintro ⟨a, b⟩
    have s : S i = true := a (fun i => S i = true) h1 (fun a ha c d j hk => h4 a (hc a ha c d) j hk)
    refine ⟨s, ?_⟩
    cases z : G i
    · rfl
    · exact absurd ⟨(h3 i z).2.1, (h3 i z).2.2⟩ b
/-- alias i is worked off: S' has what it brings -/
theorem eg_Y_step {S G S' G' : Nat → Bool} (h : eg_Y dp t q l S0 fr sc S G) {i : Nat} (hi : S i = true) (ha : et_al t l i = true) (hf : i ≠ fr) (hG : ∀ a, G' a = (G a || decide (a = i))) (h1 : ∀ j, S j = true → S' j = true) (h2 : ∀ j, S' j = true → S j = true ∨ eg_K dp t q l sc i j) (h3 : ∀ j, eg_K dp t q l sc i j → S' j = true) :
    eg_Y dp t q l S0 fr sc S' G' := by
  obtain ⟨a1, a2, a3, a4⟩ := h
  have g : ∀ a, G' a = true → G a = true ∨ a = i := fun a z => by
    rw [hG, Bool.or_eq_true] at z
    rcases z with z | z
    · exact Or.inl z
    · exact Or.inr (of_decide_eq_true z)
  refine ⟨fun j z => h1 j (a1 j z), fun j z => ?_, fun a z => ?_, fun a z j hk => ?_⟩
  · rcases h2 j z with y | y
    · exact a2 j y
    · exact eg_C_s (a2 i hi) ha hf y
  · rcases g a z with y | y
    · have := a3 a y; exact ⟨h1 a this.1, this.2⟩
    · rw [y]; exact ⟨h1 i hi, ha, hf⟩
  · rcases g a z with y | y
    · exact h1 j (a4 a y j hk)
    · rw [y] at hk; exact h3 j hk
end
theorem eg_sc3 (n : Nat) : (if n = 2 then 2 else 0) < 3 := by
  by_cases y : n = 2
  · rw [if_pos y]; decide
  · rw [if_neg y]; decide
theorem et_th_u1 {s : Nat → Int32} {i : Nat} (hi : i < 48) (j : Nat) : et_th (upd s i 1) j = (et_th s j || decide (j = i)) := by
  by_cases z : j = i
  · rw [z, et_th_us hi em_10, decide_eq_true rfl, Bool.or_true]
  · rw [et_th_un z, decide_eq_false z, Bool.or_false]
section
variable {g_tokens g_serial : Int32} {b_there b_parent b_name b_alias b_serials b_sets b_rules b_kinds b_attributes b_numbers b_stack b_searched b_gone b_finds : Nat → Int32}
variable {dp : Nat → Nat}
theorem ey_mark {post : SY → Prop} (hTr : et_Tr dp b_there b_parent) {b sc : Nat} (hb : b < 48) (hsc : sc < 3)
    (H : ∀ sr, (∀ i, et_th sr i = (et_th b_searched i || eg_M dp b_there b_parent b sc i)) → post (g_tokens, g_serial, b_there, b_parent, b_name, b_alias, b_serials, b_sets, b_rules, b_kinds, b_attributes, b_numbers, b_stack, sr, b_gone, b_finds)) : wpY_mark post (g_tokens, g_serial, b_there, b_parent, b_name, b_alias, b_serials, b_sets, b_rules, b_kinds, b_attributes, b_numbers, b_stack, b_searched, b_gone, b_finds) (nI b) (nI sc) := by
  unfold wpY_mark
  have L : ∀ d i sr, i + d = 48 → (∀ j, et_th sr j = (et_th b_searched j || (decide (j < i) && eg_M dp b_there b_parent b sc j))) → wY_mark_2 post (nI b) (nI sc) g_tokens g_serial (d + 1) (nI i) b_there b_parent b_name b_alias b_serials b_sets b_rules b_kinds b_attributes b_numbers b_stack sr b_gone b_finds := by
    intro d
    induction d with
    | zero =>
      intro i sr hi h
      obtain rfl : i = 48 := by omega
      refine br_t (nI_le (a := 48) (b := 48) (Nat.le_refl _) (by decide)) (H sr (fun j => ?_))
      rw [h j]
      rcases Nat.lt_or_ge j 48 with y | y
      · rw [decide_eq_true y, Bool.true_and]
      · unfold eg_M; rw [et_th_big (t := b_there) y, Bool.false_and, Bool.and_false]
    | succ d ih =>
      intro i sr hi h
      have ci : (nI i).toNatClampNeg = i := nI_clamp (by omega)
      have vi : vp_in (nI i) 48 := vp_in_nI (by omega) (by decide)
      have No : eg_M dp b_there b_parent b sc i = false → wY_mark_2 post (nI b) (nI sc) g_tokens g_serial (d + 1) (nI (i + 1)) b_there b_parent b_name b_alias b_serials b_sets b_rules b_kinds b_attributes b_numbers b_stack sr b_gone b_finds := by
        intro z
        refine ih (i + 1) sr (by omega) (fun j => ?_)
        rw [h j]
        rcases Nat.lt_trichotomy j i with y | y | y
        · rw [decide_eq_true y, decide_eq_true (show j < i + 1 by omega)]
        · rw [y, z, Bool.and_false, Bool.and_false]
        · rw [decide_eq_false (show ¬ j < i by omega), decide_eq_false (show ¬ j < i + 1 by omega)]
      have Yes : eg_M dp b_there b_parent b sc i = true → wY_mark_2 post (nI b) (nI sc) g_tokens g_serial (d + 1) (nI (i + 1)) b_there b_parent b_name b_alias b_serials b_sets b_rules b_kinds b_attributes b_numbers b_stack (upd sr i 1) b_gone b_finds := by
        intro z
        refine ih (i + 1) _ (by omega) (fun j => ?_)
        rw [et_th_u1 (by omega), h j]
        rcases Nat.lt_trichotomy j i with y | y | y
        · rw [decide_eq_true y, decide_eq_true (show j < i + 1 by omega), decide_eq_false (show ¬ j = i by omega), Bool.or_false]
        · rw [y, z, decide_eq_true (rfl : i = i), decide_eq_true (Nat.lt_succ_self i), Bool.or_true, Bool.and_true, Bool.or_true]
        · rw [decide_eq_false (show ¬ j < i by omega), decide_eq_false (show ¬ j < i + 1 by omega), decide_eq_false (show ¬ j = i by omega), Bool.or_false]
      refine br_f (nI_ge (b := 48) (by omega) (by decide)) ⟨vi, ?_⟩
      rw [ci]
      cases ht : et_th b_there i
      · refine br_t (et_th_f ht (by omega)) (nm_r (nI_1 i) (No ?_))
        unfold eg_M; rw [ht, Bool.false_and]
      · refine br_f (et_th_ne ht) ?_
        have hsc' : sc = 0 ∨ sc = 1 ∨ sc = 2 := by omega
        rcases hsc' with rfl | rfl | rfl
        · refine br_f (by decide) ?_
          by_cases z : i = b
          · exact br_t (by rw [z]) ⟨vi, nm_r (e' := upd sr i 1) rfl (nm_r (nI_1 i) (Yes (by unfold eg_M; rw [ht, if_neg (by decide), decide_eq_true z]; rfl)))⟩
          · exact br_f (fun w => z ((nI_eq (by omega) (by omega)).mp w)) (br_f (by decide) (br_f (by decide) (nm_r (nI_1 i) (No (by unfold eg_M; rw [ht, if_neg (by decide), decide_eq_false z]; rfl)))))
        · refine br_t rfl (br_t rfl ⟨vi, ?_⟩)
          rw [ci]
          by_cases z : b_parent i = nI b
          · exact br_t z ⟨vi, nm_r (e' := upd sr i 1) rfl (nm_r (nI_1 i) (Yes (by unfold eg_M; rw [ht, if_pos rfl, decide_eq_true z]; rfl)))⟩
          · exact br_f z (br_f (by decide) (nm_r (nI_1 i) (No (by unfold eg_M; rw [ht, if_pos rfl, decide_eq_false z]; rfl))))
        · refine br_f (by decide) ?_
          by_cases z : i = b
          · exact br_t (by rw [z]) ⟨vi, nm_r (e' := upd sr i 1) rfl (nm_r (nI_1 i) (Yes (by unfold eg_M; rw [ht, if_neg (by decide), decide_eq_true z, Bool.true_or, Bool.true_and])))⟩
          · refine br_f (fun w => z ((nI_eq (by omega) (by omega)).mp w)) (br_f (by decide) (br_t rfl (ey_isBelow hTr ht hb ?_)))
            cases y : et_B dp b_parent i b
            · exact br_t rfl (nm_r (nI_1 i) (No (by unfold eg_M; rw [if_neg (by decide), decide_eq_false z, y, Bool.and_false, Bool.or_false, Bool.and_false])))
            · exact br_f em_10 ⟨vi, nm_r (e' := upd sr i 1) (by rw [ci]; rfl) (nm_r (nI_1 i) (Yes (by unfold eg_M; rw [ht, if_neg (by decide), decide_eq_true (rfl : 2 = 2), y, Bool.true_and, Bool.true_and, Bool.or_true])))⟩
  refine ⟨49, L 48 0 b_searched (by omega) (fun j => ?_)⟩
  rw [decide_eq_false (Nat.not_lt_zero j), Bool.false_and, Bool.or_false]
theorem ey_s139 {post : Int32 → SY → Prop} (hTr : et_Tr dp b_there b_parent) (hY : er_AlY b_there b_parent b_alias) {S0 : Nat → Bool} (hS0 : ∀ i, S0 i = true → et_th b_there i = true) {fr scp g c0 : Nat} (hfr : fr < 48) (hscp : scp < 3)
    {J : Int32 → Int32 → Int32 → (Nat → Int32) → (Nat → Int32) → (Nat → Int32) → (Nat → Int32) → (Nat → Int32) → (Nat → Int32) → (Nat → Int32) → (Nat → Int32) → (Nat → Int32) → (Nat → Int32) → (Nat → Int32) → (Nat → Int32) → (Nat → Int32) → (Nat → Int32) → Prop}
    (H : ∀ more sr go, eg_Y dp b_there b_parent b_alias S0 fr (if scp = 2 then 2 else 0) (et_th sr) (et_th go) → (more = false → ∀ a, et_th sr a = true → et_al b_there b_alias a = true → a ≠ fr → et_th go a = true) → (more = true → c0 < et_cn (et_th go) 48) → J (em_b more) g_tokens g_serial b_there b_parent b_name b_alias b_serials b_sets b_rules b_kinds b_attributes b_numbers b_stack sr go b_finds) :
    ∀ d i more sr go, i + d = 48 → eg_Y dp b_there b_parent b_alias S0 fr (if scp = 2 then 2 else 0) (et_th sr) (et_th go) → (more = false → ∀ a, a < i → et_th sr a = true → et_al b_there b_alias a = true → a ≠ fr → et_th go a = true) → c0 ≤ et_cn (et_th go) 48 → (more = true → c0 < et_cn (et_th go) 48) →
      wY_search_139 post J (nI scp) (nI g) (nI fr) (d + 1) (em_b more) (nI i) g_tokens g_serial b_there b_parent b_name b_alias b_serials b_sets b_rules b_kinds b_attributes b_numbers b_stack sr go b_finds := by
  intro d
  induction d with
  | zero =>
    intro i more sr go hi hI h1 h2 h3
    obtain rfl : i = 48 := by omega
    exact br_t (nI_le (a := 48) (b := 48) (Nat.le_refl _) (by decide)) (H more sr go hI (fun z a b => h1 z a (et_th_lt b) b) h3)
  | succ d ih =>
    intro i more sr go hi hI h1 h2 h3
    have ci : (nI i).toNatClampNeg = i := nI_clamp (by omega)
    have vi : vp_in (nI i) 48 := vp_in_nI (by omega) (by decide)
    have Skip : (et_th sr i = true → et_al b_there b_alias i = true → i ≠ fr → et_th go i = true) → wY_search_139 post J (nI scp) (nI g) (nI fr) (d + 1) (em_b more) (nI (i + 1)) g_tokens g_serial b_there b_parent b_name b_alias b_serials b_sets b_rules b_kinds b_attributes b_numbers b_stack sr go b_finds := by
      intro hk
      refine ih (i + 1) more sr go (by omega) hI (fun z a ha => ?_) h2 h3
      by_cases y : a = i
      · rw [y]; exact hk
      · exact h1 z a (by omega)
    refine br_f (nI_ge (b := 48) (by omega) (by decide)) ⟨vi, ?_⟩
    rw [ci]
    cases hs : et_th sr i
    · exact br_t (et_th_f hs (by omega)) (nm_r (nI_1 i) (Skip (fun z => by rw [hs] at z; cases z)))
    · have ht : et_th b_there i = true := eg_C_th hS0 (hI.2.1 i hs)
      refine br_f (et_th_ne hs) ⟨vi, ?_⟩
      cases hg : et_th go i
      · refine br_t (et_th_f hg (by omega)) (ey_isAlias ht ?_)
        cases ha : et_al b_there b_alias i
        · exact br_t rfl (nm_r (nI_1 i) (Skip (fun _ z => by rw [ha] at z; cases z)))
        · refine br_f em_10 ?_
          by_cases hf : i = fr
          · exact br_t (by rw [hf]) (nm_r (nI_1 i) (Skip (fun _ _ z => absurd hf z)))
          · refine br_f (fun w => hf ((nI_eq (by omega) (by omega)).mp w)) ⟨vi, nm_r (e' := upd go i 1) rfl (ey_leadsTo hY (Or.inr ⟨i, ht, rfl⟩) ?_)⟩
            have hG : ∀ a, et_th (upd go i 1) a = (et_th go a || decide (a = i)) := et_th_u1 (by omega)
            have cn : et_cn (et_th (upd go i 1)) 48 = et_cn (et_th go) 48 + 1 := et_cn_ins (e := i) 48 (by omega) hg (fun a _ => hG a)
            rcases et_ld_V hY 48 (nI i) (Or.inr ⟨i, ht, rfl⟩) with e | ⟨b, hb, hab, e⟩
            · rw [e]
              refine br_t (by decide) (nm_r (nI_1 i) (ih (i + 1) true sr _ (by omega) (eg_Y_step hI hs ha hf hG (fun j z => z) (fun j z => Or.inl z) (fun j ⟨b, hb, eb, _⟩ => ?_)) (fun z => by cases z) (by omega) (fun _ => by omega)))
              exact absurd (eb.symm.trans e) (em_nIm2 (by omega))
            · have lb := et_th_lt hb
              rw [e]
              have M : ∀ z0 : Nat, z0 = (if scp = 2 then 2 else 0) → wY_search_222 post J (wY_search_139 post J (nI scp) (nI g) (nI fr) (d + 1)) (nI scp) (nI g) (nI fr) 1 (nI i) (nI z0) (nI b) g_tokens g_serial b_there b_parent b_name b_alias b_serials b_sets b_rules b_kinds b_attributes b_numbers b_stack sr (upd go i 1) b_finds := by
                intro z0 hz
                refine ey_mark hTr lb (by rw [hz]; exact eg_sc3 scp) (fun sr' hsr => nm_r (nI_1 i) (ih (i + 1) true sr' _ (by omega) (eg_Y_step hI hs ha hf hG (fun j z => ?_) (fun j z => ?_) (fun j ⟨b', hb', eb', hm⟩ => ?_)) (fun z => by cases z) (by omega) (fun _ => by omega)))
                · rw [hsr, z, Bool.true_or]
                · rw [hsr, Bool.or_eq_true] at z
                  rcases z with z | z
                  · exact Or.inl z
                  · exact Or.inr ⟨b, lb, e, by rw [← hz]; exact z⟩
                · have : b' = b := (nI_eq (by omega) (by omega)).mp (eb'.symm.trans e)
                  rw [this, ← hz] at hm
                  rw [hsr, hm, Bool.or_true]
              refine br_f (nI_pos (by omega)) ?_
              by_cases y : scp = 2
              · exact br_t (by rw [y]; rfl) (M 2 (if_pos y).symm)
              · exact br_f (fun w => y ((nI_eq (b := 2) (by omega) (by decide)).mp w)) (M 0 (if_neg y).symm)
      · exact br_f (et_th_ne hg) (nm_r (nI_1 i) (Skip (fun _ _ _ => hg)))
theorem ey_s128 {post : Int32 → SY → Prop} (hTr : et_Tr dp b_there b_parent) (hY : er_AlY b_there b_parent b_alias) {S0 : Nat → Bool} (hS0 : ∀ i, S0 i = true → et_th b_there i = true) {fr scp g : Nat} (hfr : fr < 48) (hscp : scp < 3)
    (HF : ∀ sr go, (∀ i, (et_th sr i && !et_th go i) = true ↔ eg_F dp b_there b_parent b_alias S0 fr (if scp = 2 then 2 else 0) i) → ∃ n, wY_search_240 post (nI g) n 0 0 g_tokens g_serial b_there b_parent b_name b_alias b_serials b_sets b_rules b_kinds b_attributes b_numbers b_stack sr go b_finds) :
    ∀ f sr go, 49 ≤ f + et_cn (et_th go) 48 → eg_Y dp b_there b_parent b_alias S0 fr (if scp = 2 then 2 else 0) (et_th sr) (et_th go) → wY_search_128 post (nI scp) (nI g) (nI fr) (f + 1) 1 g_tokens g_serial b_there b_parent b_name b_alias b_serials b_sets b_rules b_kinds b_attributes b_numbers b_stack sr go b_finds := by
  intro f
  induction f with
  | zero =>
    intro sr go hf
    have := et_cn_le (et_th go) 48
    omega
  | succ f ih =>
    intro sr go hf hI
    refine br_f em_10 ⟨49, ?_⟩
    refine ey_s139 hTr hY hS0 hfr hscp (c0 := et_cn (et_th go) 48) (fun more sr' go' hI' h1 h2 => ?_) 48 0 false sr go (by omega) hI (fun _ a ha => by omega) (Nat.le_refl _) (fun z => by cases z)
    cases more
    · exact br_t rfl (HF sr' go' (eg_Y_end hI' (h1 rfl)))
    · exact ih sr' go' (by have := h2 rfl; omega) hI'
end
end
section
/-! ===== searches: the component's worklist ===== -/
def eg_X (dp : Nat → Nat) (t q l : Nat → Int32) (S0 : Nat → Bool) (fr sc : Nat) (all todo dr : Int64) : Prop :=
  (∀ i, S0 i = true → eb_t all i = true) ∧ (∀ i, eb_t all i = true → eg_C dp t q l S0 fr sc i) ∧ (∀ i, eb_t dr i = (eb_t all i && (et_al t l i && !decide (i = fr)))) ∧ (∀ i, eb_t todo i = true → eb_t dr i = true) ∧ ∀ a, eb_t dr a = true → eb_t todo a = false → ∀ j, eg_K dp t q l sc a j → eb_t all j = true
section
variable {dp : Nat → Nat} {t q l : Nat → Int32} {S0 : Nat → Bool} {fr sc : Nat}
theorem eg_al {i : Nat} : (et_al t l i && !decide (i = fr)) = true ↔ et_al t l i = true ∧ i ≠ fr := by
  rw [Bool.and_eq_true]
  constructor
  · rintro ⟨a, b⟩
    refine ⟨a, fun z => ?_⟩
    rw [decide_eq_true z] at b
    exact absurd b (by decide)
  · rintro ⟨a, b⟩
    exact ⟨a, by rw [decide_eq_false b]; rfl⟩
theorem eg_X_end {all todo dr : Int64} (h : eg_X dp t q l S0 fr sc all todo dr) (hz : todo = 0) (i : Nat) : eb_t (all &&& (dr ^^^ (-1))) i = true ↔ eg_F dp t q l S0 fr sc i := by
  obtain ⟨h1, h2, h3, h4, h5⟩ := h
  have C : ∀ i, eg_C dp t q l S0 fr sc i → eb_t all i = true := fun i hi => hi (fun i => eb_t all i = true) h1 (fun a ha c d j hk => h5 a (by rw [h3, ha, eg_al.mpr ⟨c, d⟩]; rfl) (by rw [hz, eb_0]) j hk)
  rw [eb_and, Bool.and_eq_true]
  constructor
  · rintro ⟨a, b⟩
    refine ⟨h2 i a, fun y => ?_⟩
    rw [eb_not _ (eb_lt a), h3, a, eg_al.mpr y] at b
    cases b
  · rintro ⟨a, b⟩
    have c := C i a
    refine ⟨c, ?_⟩
    rw [eb_not _ (eb_lt c), h3, c]
    cases y : (et_al t l i && !decide (i = fr))
    · rfl
    · exact absurd (eg_al.mp y) b
/-- alias a goes from the list; it leads nowhere -/
theorem eg_X_pop {all todo todo' dr : Int64} (h : eg_X dp t q l S0 fr sc all todo dr) {a : Nat} (ht : ∀ i, eb_t todo' i = (eb_t todo i && !decide (i = a))) (hk : ∀ j, ¬ eg_K dp t q l sc a j) : eg_X dp t q l S0 fr sc all todo' dr := by
  obtain ⟨h1, h2, h3, h4, h5⟩ := h
  refine ⟨h1, h2, h3, fun i hi => ?_, fun b hb hn j hj => ?_⟩
  · rw [ht, Bool.and_eq_true] at hi; exact h4 i hi.1
  · by_cases z : b = a
    · rw [z] at hj; exact absurd hj (hk j)
    · rw [ht, decide_eq_false z, Bool.not_false, Bool.and_true] at hn
      exact h5 b hb hn j hj
theorem eg_X_step {all todo todo' dr more nw : Int64} (h : eg_X dp t q l S0 fr sc all todo dr) (hfr : et_al t l fr = false) {a b : Nat} (ha : eb_t todo a = true) (hb : b < 48) (hl : et_ld t l 48 (nI a) = nI b) (ht : ∀ i, eb_t todo' i = (eb_t todo i && !decide (i = a)))
    (hm : ∀ i, eb_t more i = eg_M dp t q b sc i) (hn : ∀ i, eb_t nw i = (eb_t more i && !eb_t all i && et_al t l i)) : eg_X dp t q l S0 fr sc (all ||| more) (todo' ||| nw) (dr ||| nw) := by
  obtain ⟨h1, h2, h3, h4, h5⟩ := h
  have A : ∀ i, eb_t dr i = true → eb_t all i = true ∧ et_al t l i = true ∧ i ≠ fr := fun i hi => by
    rw [h3, Bool.and_eq_true] at hi
    exact ⟨hi.1, eg_al.mp hi.2⟩
  obtain ⟨a1, a2, a3⟩ := A a (h4 a ha)
  have E : ∀ i, (et_al t l i && !decide (i = fr)) = et_al t l i := fun i => by
    by_cases z : i = fr
    · rw [z, hfr, Bool.false_and]
    · rw [decide_eq_false z, Bool.not_false, Bool.and_true]
  refine ⟨fun i hi => ?_, fun i hi => ?_, fun i => ?_, fun i hi => ?_, fun c hc hn' j hj => ?_⟩
  · rw [eb_or, h1 i hi, Bool.true_or]
  · rw [eb_or, Bool.or_eq_true] at hi
    rcases hi with hi | hi
    · exact h2 i hi
    · rw [hm] at hi
      exact eg_C_s (h2 a a1) a2 a3 ⟨b, hb, hl, hi⟩
  · rw [eb_or, eb_or, h3, hn, E]
    cases eb_t all i <;> cases eb_t more i <;> cases et_al t l i <;> rfl
  · rw [eb_or, Bool.or_eq_true] at hi
    rw [eb_or, Bool.or_eq_true]
    rcases hi with hi | hi
    · rw [ht, Bool.and_eq_true] at hi; exact Or.inl (h4 i hi.1)
    · exact Or.inr hi
  · rw [eb_or, Bool.or_eq_false_iff] at hn'
    rw [eb_or, hn'.2, Bool.or_false] at hc
    rw [eb_or, Bool.or_eq_true]
    by_cases z : c = a
    · rw [z] at hj
      obtain ⟨b', hb', hl', hm'⟩ := hj
      have : b' = b := (nI_eq (by omega) (by omega)).mp (hl'.symm.trans hl)
      rw [this] at hm'
      exact Or.inr ((hm j).trans hm')
    · have := hn'.1
      rw [ht, decide_eq_false z, Bool.not_false, Bool.and_true] at this
      exact Or.inl (h5 c hc this j hj)
end
section
variable {f_there f_isAlias f_found : Int64} {f_serial f_tokens : Int32} {a_parents a_names a_aliases a_serials a_known a_kinds a_attributes a_values : Nat → Int32} {a_under a_below a_having a_any a_yes a_no a_open a_isTrue a_isFalse : Nat → Int64}
variable {post : Int64 → Prop} {t q l : Nat → Int32} {dp : Nat → Nat}
theorem ex_replaced_24 (hA : er_Ali t l f_isAlias a_aliases) (hY : er_AlY t q l) (hBel : er_Bel dp t q a_below) {S0 : Nat → Bool} (hS0 : ∀ i, S0 i = true → et_th t i = true) {fr sc : Nat} (hfr : et_al t l fr = false) {deep : Int32} (hd : (deep = 0 ∧ sc = 0) ∨ (¬ deep = 0 ∧ sc = 2))
    (H : ∀ s, (∀ i, eb_t s i = true ↔ eg_F dp t q l S0 fr sc i) → post s) :
    ∀ f all todo dr, 49 ≤ f + et_cn (fun i => eb_t dr i && !eb_t todo i) 48 → eg_X dp t q l S0 fr sc all todo dr → wX_replaced_24 post deep f_there f_isAlias f_serial f_tokens f_found a_parents a_names a_aliases a_serials a_under a_below a_having a_any a_yes a_no a_open a_known a_kinds a_attributes a_values a_isTrue a_isFalse (f + 1) all todo dr := by
  intro f
  induction f with
  | zero =>
    intro all todo dr hf
    have := et_cn_le (fun i => eb_t dr i && !eb_t todo i) 48
    omega
  | succ f ih =>
    intro all todo dr hf hX
    by_cases z : todo = 0
    · exact br_t z (H _ (eg_X_end hX z))
    · obtain ⟨a, _, ha, hlow⟩ := eb_low z
      have hdr := hX.2.2.2.1 a ha
      have hall : eb_t all a = true := by
        have := hdr
        rw [hX.2.2.1, Bool.and_eq_true] at this
        exact this.1
      have tha : et_th t a = true := eg_C_th hS0 (hX.2.1 a hall)
      have lta := et_th_lt tha
      have hp := eb_pred ha hlow
      refine br_f z (ex_lowest ha hlow (ex_leads hA hY (Or.inr ⟨a, tha, rfl⟩) (nm_e ?_)))
      rcases et_ld_V hY 48 (nI a) (Or.inr ⟨a, tha, rfl⟩) with e | ⟨b, hb, hab, e⟩
      · rw [e]
        have hX' := eg_X_pop hX hp (fun j ⟨b, hb, eb, _⟩ => em_nIm2 (by omega) (eb.symm.trans e))
        refine br_f (by decide) (ih _ _ _ ?_ hX')
        have : et_cn (fun i => eb_t dr i && !eb_t todo i) 48 < et_cn (fun i => eb_t dr i && !eb_t (todo &&& (todo - 1)) i) 48 := by
          refine et_cn_lt (e := a) lta (by rw [ha, Bool.not_true, Bool.and_false]) (by rw [hdr, hp, decide_eq_true rfl]; cases eb_t todo a <;> rfl) (fun i _ hi => ?_)
          rw [Bool.and_eq_true] at hi
          rw [hi.1, hp]
          have h2 := hi.2
          cases y : eb_t todo i
          · rfl
          · rw [y] at h2; cases h2
        omega
      · have lb := et_th_lt hb
        rw [e]
        have M : ∀ more, (∀ i, eb_t more i = eg_M dp t q b sc i) → wX_replaced_85 post (wX_replaced_24 post deep f_there f_isAlias f_serial f_tokens f_found a_parents a_names a_aliases a_serials a_under a_below a_having a_any a_yes a_no a_open a_known a_kinds a_attributes a_values a_isTrue a_isFalse (f + 1)) deep all (todo &&& (todo - 1)) dr more f_there f_isAlias f_serial f_tokens f_found a_parents a_names a_aliases a_serials a_under a_below a_having a_any a_yes a_no a_open a_known a_kinds a_attributes a_values a_isTrue a_isFalse := by
          intro more hm
          have hn : ∀ i, eb_t ((more &&& (all ^^^ (-1))) &&& f_isAlias) i = (eb_t more i && !eb_t all i && et_al t l i) := by
            intro i
            rw [eb_and, eb_and, hA.1]
            rcases Nat.lt_or_ge i 64 with y | y
            · rw [eb_not _ y]
            · rw [eb_big y, Bool.false_and, Bool.false_and]; rfl
          have hX' := eg_X_step hX hfr ha lb e hp hm hn
          refine nm_e (nm_e (nm_e (ih _ _ _ ?_ hX')))
          have : et_cn (fun i => eb_t dr i && !eb_t todo i) 48 < et_cn (fun i => eb_t (dr ||| ((more &&& (all ^^^ (-1))) &&& f_isAlias)) i && !eb_t ((todo &&& (todo - 1)) ||| ((more &&& (all ^^^ (-1))) &&& f_isAlias)) i) 48 := by
            have dall : ∀ i, eb_t dr i = true → eb_t ((more &&& (all ^^^ (-1))) &&& f_isAlias) i = false := by
              intro i hi
              rw [hX.2.2.1, Bool.and_eq_true] at hi
              rw [hn, hi.1, Bool.not_true, Bool.and_false, Bool.false_and]
            refine et_cn_lt (e := a) lta (by rw [ha, Bool.not_true, Bool.and_false]) ?_ (fun i _ hi => ?_)
            · rw [eb_or, eb_or, hdr, hp, dall a hdr, decide_eq_true rfl]; cases eb_t todo a <;> rfl
            · rw [Bool.and_eq_true] at hi
              rw [eb_or, eb_or, hi.1, hp, dall i hi.1]
              have h2 := hi.2
              cases y : eb_t todo i
              · rfl
              · rw [y] at h2; cases h2
          omega
        refine br_t (nI_pos' (by omega)) ?_
        rcases hd with ⟨rfl, rfl⟩ | ⟨h0, rfl⟩
        · refine br_t rfl (ex_bit (by omega) (fun b' hb' => M b' (fun i => ?_)))
          rw [hb']
          unfold eg_M
          rw [if_neg (by decide), show decide (0 = 2) = false from rfl, Bool.false_and, Bool.or_false]
          by_cases y : i = b
          · rw [y, hb, decide_eq_true rfl]; rfl
          · rw [decide_eq_false y, Bool.and_false]
        · refine br_f h0 ⟨vp_in_nI lb (by decide), ex_bit (by omega) (fun b' hb' => M _ (fun i => ?_))⟩
          rw [nI_clamp (by omega), eb_or, hb', hBel b lb]
          unfold eg_M
          rw [if_neg (by decide), decide_eq_true (rfl : 2 = 2), Bool.true_and]
          by_cases y : i = b
          · rw [y, hb, decide_eq_true rfl, Bool.or_true, Bool.true_or, Bool.true_and]
          · rw [decide_eq_false y, Bool.or_false, Bool.false_or]
theorem ex_replaced (hA : er_Ali t l f_isAlias a_aliases) (hY : er_AlY t q l) (hBel : er_Bel dp t q a_below) {S0 : Nat → Bool} (hS0 : ∀ i, S0 i = true → et_th t i = true) {fr sc : Nat} (hfr : fr < 48) (hS1 : et_al t l fr = true → ∀ i, S0 i = true → i = fr) {deep : Int32} (hd : (deep = 0 ∧ sc = 0) ∨ (¬ deep = 0 ∧ sc = 2))
    {set : Int64} (hset : ∀ i, eb_t set i = S0 i) (H : ∀ s, (∀ i, eb_t s i = true ↔ eg_F dp t q l S0 fr sc i) → post s) : wpX_replaced post (f_there, f_isAlias, f_serial, f_tokens, f_found, a_parents, a_names, a_aliases, a_serials, a_under, a_below, a_having, a_any, a_yes, a_no, a_open, a_known, a_kinds, a_attributes, a_values, a_isTrue, a_isFalse) set (nI fr) deep := by
  unfold wpX_replaced
  refine ex_bit (by omega) (fun b hb => nm_e ?_)
  have T : ∀ i, eb_t ((set &&& f_isAlias) &&& (b ^^^ (-1))) i = (eb_t set i && (et_al t l i && !decide (i = fr))) := by
    intro i
    rw [eb_and, eb_and, hA.1, Bool.and_assoc]
    rcases Nat.lt_or_ge i 64 with y | y
    · rw [eb_not _ y, hb]
    · rw [eb_big y, Bool.false_and, Bool.false_and]
  have hX : eg_X dp t q l S0 fr sc set ((set &&& f_isAlias) &&& (b ^^^ (-1))) ((set &&& f_isAlias) &&& (b ^^^ (-1))) :=
    ⟨fun i hi => (hset i).trans hi, fun i hi => eg_C_0 ((hset i).symm.trans hi), T, fun i hi => hi, fun a h1 h2 => by rw [h1] at h2; cases h2⟩
  cases hal : et_al t l fr
  · exact ⟨50, ex_replaced_24 hA hY hBel hS0 hal hd H 49 _ _ _ (by omega) hX⟩
  · have z : ((set &&& f_isAlias) &&& (b ^^^ (-1))) = 0 := by
      refine eb_all0 (fun i _ => ?_)
      rw [T, hset]
      cases y : S0 i
      · rfl
      · rw [hS1 hal i y, decide_eq_true rfl, Bool.not_true, Bool.and_false, Bool.and_false]
    exact ⟨1, br_t z (H _ (eg_X_end hX z))⟩
end
/-- an alias has nothing below it -/
theorem eg_leaf {dp : Nat → Nat} {t q l : Nat → Int32} (hTr : et_Tr dp t q) (hY : er_AlY t q l) {a : Nat} (ha : et_al t l a = true) : ∀ j, et_th t j = true → et_B dp q j a = false := by
  apply et_ind hTr
  · exact et_B_root hTr a
  · intro j hj h0 hp ih
    rw [et_B_step hTr hj h0, ih, Bool.or_false]
    refine decide_eq_false (fun z => ?_)
    have := hY.2.2 j hj h0
    rw [← z] at this
    exact et_al_ne ha this
theorem eg_S1 {dp : Nat → Nat} {t q l : Nat → Int32} (hTr : et_Tr dp t q) (hY : er_AlY t q l) {fr scp : Nat} (ha : et_al t l fr = true) {i : Nat} (h : eg_M dp t q fr scp i = true) : i = fr := by
  have lf := et_th_lt (et_al_th ha)
  have ht := eg_M_th h
  unfold eg_M at h
  rw [ht, Bool.true_and] at h
  by_cases z : scp = 1
  · rw [if_pos z] at h
    have w := (et_q_iff hTr ht lf).mp (of_decide_eq_true h)
    have := hY.2.2 i ht w.1
    rw [w.2] at this
    exact absurd this (et_al_ne ha)
  · rw [if_neg z, eg_leaf hTr hY ha i ht, Bool.and_false, Bool.or_false] at h
    exact of_decide_eq_true h
end
section
/-! ===== search ===== -/
theorem em_narb (c : Bool) : vp_nar .boolean (em_b c) = em_b c := by cases c <;> rfl
theorem em_b_0 (c : Bool) : em_b c = 0 ↔ c = false := by
  cases c
  · exact ⟨fun _ => rfl, fun _ => rfl⟩
  · exact ⟨fun z => absurd z (by decide), fun z => absurd z (by decide)⟩
theorem et_th_ub {s : Nat → Int32} {i : Nat} (hi : i < 48) (c : Bool) : et_th (upd s i (em_b c)) i = c := by
  unfold et_th
  rw [pk_us, decide_eq_true hi]
  cases c <;> rfl
section
variable {g_tokens g_serial : Int32} {b_there b_parent b_name b_alias b_serials b_sets b_rules b_kinds b_attributes b_numbers b_stack b_searched b_gone b_finds : Nat → Int32}
variable {dp : Nat → Nat} {ka aa va : Nat → Nat} {T : Nat}
theorem ey_s240 {post : Int32 → SY → Prop} (hTr : et_Tr dp b_there b_parent) (hT : T ≤ 12) (ht : g_tokens = nI T) (hA : er_TokA T ka aa va b_kinds b_attributes b_numbers) (hF : ef_F ka T) {g : Nat} (hg : g < 4)
    {pl : Nat → Nat → Nat} (hpl : ∀ j e, pl j e = ef_pl (et_R dp b_parent b_rules (6 * g + aa j) e) (ef_sm (b_sets (6 * e + aa j)) (ka j) (va j)))
    {F : Nat → Bool} (hFt : ∀ i, F i = true → et_th b_there i = true) (hSG : ∀ i, (et_th b_searched i && !et_th b_gone i) = F i)
    (H : ∀ fi st, (∀ i, et_th fi i = (F i && decide (ef_V ka pl T T 0 i = 2))) → post (nI (et_cn (fun i => F i && decide (ef_V ka pl T T 0 i = 2)) 48)) (g_tokens, g_serial, b_there, b_parent, b_name, b_alias, b_serials, b_sets, b_rules, b_kinds, b_attributes, b_numbers, st, b_searched, b_gone, fi)) :
    ∀ d i fi st, i + d = 48 → (∀ j, j < i → et_th fi j = (F j && decide (ef_V ka pl T T 0 j = 2))) → wY_search_240 post (nI g) (d + 1) (nI (et_cn (fun i => F i && decide (ef_V ka pl T T 0 i = 2)) i)) (nI i) g_tokens g_serial b_there b_parent b_name b_alias b_serials b_sets b_rules b_kinds b_attributes b_numbers st b_searched b_gone fi := by
  intro d
  induction d with
  | zero =>
    intro i fi st hi h
    obtain rfl : i = 48 := by omega
    refine br_t (nI_le (a := 48) (b := 48) (Nat.le_refl _) (by decide)) (H fi st (fun j => ?_))
    rcases Nat.lt_or_ge j 48 with y | y
    · exact h j y
    · rw [et_th_big y]
      cases z : F j
      · rfl
      · have := et_th_lt (hFt j z); omega
  | succ d ih =>
    intro i fi st hi h
    have ci : (nI i).toNatClampNeg = i := nI_clamp (by omega)
    have vi : vp_in (nI i) 48 := vp_in_nI (by omega) (by decide)
    have G : ∀ st c, (F i && decide (ef_V ka pl T T 0 i = 2)) = c → wY_search_289 post (wY_search_240 post (nI g) (d + 1)) (nI g) (nI (et_cn (fun i => F i && decide (ef_V ka pl T T 0 i = 2)) i)) (nI i) (em_b c) (nI i) g_tokens g_serial b_there b_parent b_name b_alias b_serials b_sets b_rules b_kinds b_attributes b_numbers st b_searched b_gone fi := by
      intro st c hc
      have ih := ih (i + 1) (upd fi i (em_b c)) st (by omega) (fun j hj => by
        by_cases y : j = i
        · rw [y, et_th_ub (by omega), hc]
        · rw [et_th_un y]; exact h j (by omega))
      refine ⟨vi, nm_r (e' := upd fi i (em_b c)) (by rw [ci, em_narb]) ⟨vi, ?_⟩⟩
      rw [ci, pk_us]
      cases c
      · rw [et_cn_f hc] at ih
        exact br_t rfl (nm_r (nI_1 i) ih)
      · rw [et_cn_t hc] at ih
        exact br_f em_10 (nm_r (nI_1 _) (nm_r (nI_1 i) ih))
    refine br_f (nI_ge (b := 48) (by omega) (by decide)) ⟨vi, ?_⟩
    rw [ci]
    have hSi := hSG i
    cases hs : et_th b_searched i
    · rw [hs, Bool.false_and] at hSi
      exact br_t (et_th_f hs (by omega)) (G st false (by rw [← hSi, Bool.false_and]))
    · refine br_f (et_th_ne hs) ⟨vi, ?_⟩
      cases hgo : et_th b_gone i
      · rw [hs, hgo] at hSi
        have hFi : F i = true := hSi.symm
        refine br_t (et_th_f hgo (by omega)) (ey_passes hTr hT ht hA hF hg (hFt i hFi) hpl (fun st' => ?_))
        cases hv : decide (ef_V ka pl T T 0 i = 2)
        · exact br_t rfl (G st' false (by rw [hFi, hv]; rfl))
        · exact br_f em_10 (G st' true (by rw [hFi, hv]; rfl))
      · rw [hs, hgo] at hSi
        exact br_f (et_th_ne hgo) (G st false (by rw [← hSi]; rfl))
theorem ey_search3 {post : Int32 → SY → Prop} {x1 x2 x3 x4 : Int32}
    (H : ∀ fi sr go, (∀ i, et_th fi i = false) → (∀ i, et_th sr i = false) → (∀ i, et_th go i = false) → ∀ n, wY_search_3 post x1 x2 x3 x4 g_tokens g_serial (n + 1) (nI 48) b_there b_parent b_name b_alias b_serials b_sets b_rules b_kinds b_attributes b_numbers b_stack sr go fi) : wpY_search post (g_tokens, g_serial, b_there, b_parent, b_name, b_alias, b_serials, b_sets, b_rules, b_kinds, b_attributes, b_numbers, b_stack, b_searched, b_gone, b_finds) x1 x2 x3 x4 := by
  unfold wpY_search
  have L : ∀ d i fi sr go, i + d = 48 → (∀ j, j < i → fi j = 0 ∧ sr j = 0 ∧ go j = 0) → wY_search_3 post x1 x2 x3 x4 g_tokens g_serial (d + 1) (nI i) b_there b_parent b_name b_alias b_serials b_sets b_rules b_kinds b_attributes b_numbers b_stack sr go fi := by
    intro d
    induction d with
    | zero =>
      intro i fi sr go hi h
      obtain rfl : i = 48 := by omega
      have Z : ∀ (s : Nat → Int32), (∀ j, j < 48 → s j = 0) → ∀ i, et_th s i = false := by
        intro s hs i
        cases y : et_th s i
        · rfl
        · exact absurd (hs i (et_th_lt y)) (et_th_ne y)
      exact H fi sr go (Z fi (fun j hj => (h j hj).1)) (Z sr (fun j hj => (h j hj).2.1)) (Z go (fun j hj => (h j hj).2.2)) 0
    | succ d ih =>
      intro i fi sr go hi h
      have ci : (nI i).toNatClampNeg = i := nI_clamp (by omega)
      have vi : vp_in (nI i) 48 := vp_in_nI (by omega) (by decide)
      refine br_f (nI_ge (b := 48) (by omega) (by decide)) ⟨vi, nm_r (e' := upd fi i 0) (by rw [ci]; rfl) ⟨vi, nm_r (e' := upd sr i 0) (by rw [ci]; rfl) ⟨vi, nm_r (e' := upd go i 0) (by rw [ci]; rfl) (nm_r (nI_1 i) (ih (i + 1) _ _ _ (by omega) (fun j hj => ?_)))⟩⟩⟩
      by_cases y : j = i
      · rw [y, pk_us, pk_us, pk_us]; exact ⟨rfl, rfl, rfl⟩
      · rw [pk_un y, pk_un y, pk_un y]; exact h j (by omega)
  exact ⟨49, L 48 0 b_finds b_searched b_gone (by omega) (fun j hj => by omega)⟩
end
section
variable {f_there f_isAlias f_found : Int64} {f_serial f_tokens : Int32} {a_parents a_names a_aliases a_serials a_known a_kinds a_attributes a_values : Nat → Int32} {a_under a_below a_having a_any a_yes a_no a_open a_isTrue a_isFalse : Nat → Int64}
variable {post : Int32 → SX → Prop} {t q l ru sets : Nat → Int32} {dp : Nat → Nat} {ka aa va : Nat → Nat} {T : Nat}
theorem ex_s139 (hTr : et_Tr dp t q) (hU : er_Und t q a_under) (hR : er_Rul t ru a_yes a_no) (hHav : er_Hav t sets a_having) (hAny : er_Any a_having a_any) (hO : er_Opn dp t q ru a_known a_open) (hT : T ≤ 12) (ht : f_tokens = nI T) (hA : er_TokA T ka aa va a_kinds a_attributes a_values) (hF : ef_F ka T) {g : Nat} (hg : g < 4)
    {pl : Nat → Nat → Nat} (hpl : ∀ j e, pl j e = ef_pl (et_R dp q ru (6 * g + aa j) e) (ef_sm (sets (6 * e + aa j)) (ka j) (va j))) {set : Int64} (hset : ∀ i, eb_t set i = true → et_th t i = true)
    (H : ∀ fo kn op isT isF, er_Opn dp t q ru kn op → (∀ i, eb_t fo i = (eb_t set i && decide (ef_V ka pl T T 0 i = 2))) → post (nI (et_cn (eb_t fo) 48)) (f_there, f_isAlias, f_serial, f_tokens, fo, a_parents, a_names, a_aliases, a_serials, a_under, a_below, a_having, a_any, a_yes, a_no, op, kn, a_kinds, a_attributes, a_values, isT, isF)) : wX_search_139 post (nI g) set f_there f_isAlias f_serial f_tokens f_found a_parents a_names a_aliases a_serials a_under a_below a_having a_any a_yes a_no a_open a_known a_kinds a_attributes a_values a_isTrue a_isFalse := by
  refine ex_solve hTr hU hR hHav hAny hO hT ht hA hF hg hpl (fun r kn op isT isF hO' hr => nm_e ?_)
  have E : ∀ i, eb_t (set &&& r) i = (eb_t set i && decide (ef_V ka pl T T 0 i = 2)) := by
    intro i
    rw [eb_and]
    cases z : eb_t set i
    · rfl
    · rw [hr i (hset i z)]
  refine ex_size (fun i hi => ?_) (H _ kn op isT isF hO' E)
  rw [E]
  cases z : eb_t set i
  · rfl
  · have := et_th_lt (hset i z); omega
/-- the set of a search, before the filter -/
def eg_E (dp : Nat → Nat) (t q l : Nat → Int32) (fr scp : Nat) (rep : Prop) (set : Int64) : Prop :=
  (¬ rep → ∀ i, eb_t set i = eg_M dp t q fr scp i) ∧ (rep → ∀ i, eb_t set i = true ↔ eg_F dp t q l (eg_M dp t q fr scp) fr (if scp = 2 then 2 else 0) i)
theorem ex_s62 (hTr : et_Tr dp t q) (hU : er_Und t q a_under) (hA : er_Ali t l f_isAlias a_aliases) (hY : er_AlY t q l) (hBel : er_Bel dp t q a_below) {fr scp : Nat} {x3 x4 : Int32} (hfr : et_th t fr = true) (hscp : scp < 3)
    (H : ∀ set, (∀ i, eb_t set i = true → et_th t i = true) → eg_E dp t q l fr scp (¬ (x3 &&& 1) = 0) set → wX_search_139 post x4 set f_there f_isAlias f_serial f_tokens f_found a_parents a_names a_aliases a_serials a_under a_below a_having a_any a_yes a_no a_open a_known a_kinds a_attributes a_values a_isTrue a_isFalse) : wX_search_62 post (nI scp) x3 x4 (nI fr) f_there f_isAlias f_serial f_tokens f_found a_parents a_names a_aliases a_serials a_under a_below a_having a_any a_yes a_no a_open a_known a_kinds a_attributes a_values a_isTrue a_isFalse := by
  have lf := et_th_lt hfr
  have cf : (nI fr).toNatClampNeg = fr := nI_clamp (by omega)
  have vf : vp_in (nI fr) 48 := vp_in_nI lf (by decide)
  have G : ∀ set, (∀ i, eb_t set i = eg_M dp t q fr scp i) → wX_search_111 post (nI scp) x3 x4 (nI fr) set f_there f_isAlias f_serial f_tokens f_found a_parents a_names a_aliases a_serials a_under a_below a_having a_any a_yes a_no a_open a_known a_kinds a_attributes a_values a_isTrue a_isFalse := by
    intro set hset
    by_cases z : (x3 &&& 1) = 0
    · exact br_t z (H set (fun i hi => eg_M_th ((hset i).symm.trans hi)) ⟨fun _ => hset, fun w => absurd z w⟩)
    · have R : ∀ deep : Int32, ((deep = 0 ∧ (if scp = 2 then 2 else 0) = 0) ∨ (¬ deep = 0 ∧ (if scp = 2 then 2 else 0) = 2)) → wX_search_134 post x4 deep (nI fr) set f_there f_isAlias f_serial f_tokens f_found a_parents a_names a_aliases a_serials a_under a_below a_having a_any a_yes a_no a_open a_known a_kinds a_attributes a_values a_isTrue a_isFalse := by
        intro deep hd
        exact ex_replaced hA hY hBel (S0 := eg_M dp t q fr scp) (fun i hi => eg_M_th hi) lf (fun ha i hi => eg_S1 hTr hY ha hi) hd hset (fun s hs => H s (fun i hi => eg_C_th (fun i hi => eg_M_th hi) ((hs i).mp hi).1) ⟨fun w => absurd z w, fun _ => hs⟩)
      refine br_f z ?_
      by_cases y : scp = 2
      · exact br_t (by rw [y]; rfl) (R 1 (Or.inr ⟨em_10, if_pos y⟩))
      · exact br_f (fun w => y ((nI_eq (b := 2) (by omega) (by decide)).mp w)) (R 0 (Or.inl ⟨rfl, if_neg y⟩))
  refine br_t (nI_pos' (by omega)) ?_
  have hsc' : scp = 0 ∨ scp = 1 ∨ scp = 2 := by omega
  rcases hsc' with rfl | rfl | rfl
  · refine br_t rfl (ex_bit (by omega) (fun b hb => G b (fun i => ?_)))
    rw [hb]
    unfold eg_M
    rw [if_neg (by decide), show decide (0 = 2) = false from rfl, Bool.false_and, Bool.or_false]
    by_cases y : i = fr
    · rw [y, hfr, decide_eq_true rfl]; rfl
    · rw [decide_eq_false y, Bool.and_false]
  · refine br_f (by decide) (br_t rfl ⟨vf, G _ (fun i => ?_)⟩)
    rw [cf, hU fr lf]
    unfold eg_M
    rw [if_pos rfl]
  · refine br_f (by decide) (br_f (by decide) ⟨vf, ex_bit (by omega) (fun b hb => G _ (fun i => ?_))⟩)
    rw [cf, eb_or, hb, hBel fr lf]
    unfold eg_M
    rw [if_neg (by decide), decide_eq_true (rfl : 2 = 2), Bool.true_and]
    by_cases y : i = fr
    · rw [y, hfr, decide_eq_true rfl, Bool.or_true, Bool.true_or, Bool.true_and]
    · rw [decide_eq_false y, Bool.or_false, Bool.false_or]
end
section
variable {g_tokens g_serial : Int32} {b_there b_parent b_name b_alias b_serials b_sets b_rules b_kinds b_attributes b_numbers b_stack b_searched b_gone b_finds : Nat → Int32}
variable {dp : Nat → Nat}
theorem ey_s98 {post : Int32 → SY → Prop} (hTr : et_Tr dp b_there b_parent) (hY : er_AlY b_there b_parent b_alias) {fr scp g : Nat} {x3 : Int32} (hfr : et_th b_there fr = true) (hscp : scp < 3) (hx3 : (x3 &&& 1) = 1 ↔ ¬ (x3 &&& 1) = 0)
    (h1 : ∀ i, et_th b_searched i = false) (h2 : ∀ i, et_th b_gone i = false) {set : Int64} (hE : eg_E dp b_there b_parent b_alias fr scp (¬ (x3 &&& 1) = 0) set)
    (H : ∀ sr go, (∀ i, (et_th sr i && !et_th go i) = eb_t set i) → ∃ n, wY_search_240 post (nI g) n 0 0 g_tokens g_serial b_there b_parent b_name b_alias b_serials b_sets b_rules b_kinds b_attributes b_numbers b_stack sr go b_finds) : wY_search_98 post (nI scp) x3 (nI g) (nI fr) g_tokens g_serial b_there b_parent b_name b_alias b_serials b_sets b_rules b_kinds b_attributes b_numbers b_stack b_searched b_gone b_finds := by
  have lf := et_th_lt hfr
  refine br_t (nI_pos' (by omega)) (ey_mark hTr lf hscp (fun sr hsr => ?_))
  have hS : ∀ i, et_th sr i = eg_M dp b_there b_parent fr scp i := fun i => by rw [hsr, h1, Bool.false_or]
  by_cases z : (x3 &&& 1) = 0
  · refine br_f (fun w => hx3.mp w z) ⟨1, br_t rfl (H sr b_gone (fun i => ?_))⟩
    rw [hS, h2, hE.1 (fun w => w z)]
    exact Bool.and_true _
  · refine br_t (hx3.mpr z) ⟨50, ey_s128 hTr hY (S0 := eg_M dp b_there b_parent fr scp) (fun i hi => eg_M_th hi) lf hscp (fun sr go hsg => H sr go (fun i => ?_)) 49 sr b_gone (by omega) ⟨fun i hi => (hS i).trans hi, fun i hi => eg_C_0 ((hS i).symm.trans hi), fun a ha => (by rw [h2] at ha; cases ha), fun a ha => (by rw [h2] at ha; cases ha)⟩⟩
    exact Bool.eq_iff_iff.mpr ((hsg i).trans ((hE.2 z) i).symm)
end
section
variable {f_there f_isAlias f_found : Int64} {f_serial f_tokens : Int32} {a_parents a_names a_aliases a_serials a_known a_kinds a_attributes a_values : Nat → Int32} {a_under a_below a_having a_any a_yes a_no a_open a_isTrue a_isFalse : Nat → Int64}
variable {g_tokens g_serial : Int32} {b_there b_parent b_name b_alias b_serials b_sets b_rules b_kinds b_attributes b_numbers b_stack b_searched b_gone b_finds : Nat → Int32}
variable {dp : Nat → Nat}
theorem es_core {k : Nat} (I : er_Rel k dp f_there f_isAlias f_serial f_tokens f_found a_parents a_names a_aliases a_serials a_under a_below a_having a_any a_yes a_no a_open a_known a_kinds a_attributes a_values g_tokens g_serial b_there b_parent b_name b_alias b_serials b_sets b_rules b_kinds b_attributes b_numbers b_finds) {T : Nat} {ka aa va : Nat → Nat} (hT : T ≤ 12) (ht : f_tokens = nI T) (ht' : g_tokens = nI T) (hA : er_TokA T ka aa va a_kinds a_attributes a_values) (hB : er_TokA T ka aa va b_kinds b_attributes b_numbers) (hF : ef_F ka T)
    {scp g : Nat} {x3 fv : Int32} (hscp : scp < 3) (hg : g < 4) (hx3 : (x3 &&& 1) = 1 ↔ ¬ (x3 &&& 1) = 0) (hfv : et_V b_there fv) {Q : Int32 → SX → Prop}
    (H : ∀ r u', (∀ fi sr go, (∀ i, et_th fi i = false) → (∀ i, et_th sr i = false) → (∀ i, et_th go i = false) → wY_search_98 (fun r' v' => r' = r ∧ i_Rel (k + 5) u' v') (nI scp) x3 (nI g) fv g_tokens g_serial b_there b_parent b_name b_alias b_serials b_sets b_rules b_kinds b_attributes b_numbers b_stack sr go fi) → Q r u') :
    wX_search_62 Q (nI scp) x3 (nI g) fv f_there f_isAlias f_serial f_tokens 0 a_parents a_names a_aliases a_serials a_under a_below a_having a_any a_yes a_no a_open a_known a_kinds a_attributes a_values a_isTrue a_isFalse := by
  obtain ⟨hTh, hTr, hPar, hNam, hAli, hAlY, hUnd, hBel, hHav, hAny, hSet, hRul, hOpn, hTok, hSer, hFnd⟩ := I
  rcases hfv with rfl | ⟨fr, hfr, rfl⟩
  · refine br_f (by decide) (H _ _ (fun fi sr go h1 h2 h3 => br_f (by decide) ⟨rfl, dp, ?_⟩))
    exact ⟨hTh, hTr, hPar, hNam, hAli, hAlY, hUnd, hBel, hHav, hAny, hSet, hRul, hOpn, hTok, er_Ser_up (by omega) hSer, fun i => by rw [eb_0, h1]⟩
  · refine ex_s62 hTr hUnd hAli hAlY hBel hfr hscp (fun set hset hE => ?_)
    refine ex_s139 hTr hUnd hRul hHav hAny hOpn hT ht hA hF hg (pl := fun j e => ef_pl (et_R dp b_parent b_rules (6 * g + aa j) e) (ef_sm (b_sets (6 * e + aa j)) (ka j) (va j))) (fun j e => rfl) hset (fun fo kn op isT isF hO hfo => H _ _ (fun fi sr go h1 h2 h3 => ?_))
    refine ey_s98 hTr hAlY hfr hscp hx3 h2 h3 hE (fun sr' go' hsg => ⟨49, ?_⟩)
    refine ey_s240 hTr hT ht' hB hF hg (pl := fun j e => ef_pl (et_R dp b_parent b_rules (6 * g + aa j) e) (ef_sm (b_sets (6 * e + aa j)) (ka j) (va j))) (fun j e => rfl) (F := eb_t set) hset hsg (fun fi' st' hfi => ⟨?_, dp, ?_⟩) 48 0 fi b_stack (by omega) (fun j hj => by omega)
    · exact congrArg nI (et_cn_c 48 (fun i _ => (hfo i).symm))
    · exact ⟨hTh, hTr, hPar, hNam, hAli, hAlY, hUnd, hBel, hHav, hAny, hSet, hRul, hO, hTok, er_Ser_up (by omega) hSer, fun i => by rw [hfo, hfi]⟩
end
theorem i_vc_search {k : Nat} {u : SX} {v : SY} (I : i_Rel k u v) (hk : k + 5 ≤ 2560) (v1 : Int32) (v2 : Int32) (v3 : Int32) (v4 : Int32) : wpX_search (fun r u' => wpY_search (fun r' v' => r' = r ∧ i_Rel (k + 5) u' v') v v1 v2 v3 v4) u v1 v2 v3 v4 := by
  refine er_el (P := fun u v => wpX_search (fun r u' => wpY_search (fun r' v' => r' = r ∧ i_Rel (k + 5) u' v') v v1 v2 v3 v4) u v1 v2 v3 v4) ?_ I
  intro f_there f_isAlias f_serial f_tokens f_found a_parents a_names a_aliases a_serials a_under a_below a_having a_any a_yes a_no a_open a_known a_kinds a_attributes a_values a_isTrue a_isFalse g_tokens g_serial b_there b_parent b_name b_alias b_serials b_sets b_rules b_kinds b_attributes b_numbers b_stack b_searched b_gone b_finds dp I
  have I0 := I
  obtain ⟨hTh, hTr, hPar, hNam, hAli, hAlY, hUnd, hBel, hHav, hAny, hSet, hRul, hOpn, hTok, hSer, hFnd⟩ := I
  have J : ∀ fi sr go, (∀ i, et_th fi i = false) → i_Rel (k + 5) (f_there, f_isAlias, f_serial, f_tokens, 0, a_parents, a_names, a_aliases, a_serials, a_under, a_below, a_having, a_any, a_yes, a_no, a_open, a_known, a_kinds, a_attributes, a_values, a_isTrue, a_isFalse) (g_tokens, g_serial, b_there, b_parent, b_name, b_alias, b_serials, b_sets, b_rules, b_kinds, b_attributes, b_numbers, b_stack, sr, go, fi) := fun fi sr go h =>
    ⟨dp, hTh, hTr, hPar, hNam, hAli, hAlY, hUnd, hBel, hHav, hAny, hSet, hRul, hOpn, hTok, er_Ser_up (by omega) hSer, fun i => by rw [eb_0, h]⟩
  have l48 : (48 : Int32) ≤ nI 48 := nI_le (a := 48) (b := 48) (Nat.le_refl _) (by decide)
  unfold wpX_search
  by_cases h1 : et_T b_there v1
  · obtain ⟨e, he, rfl⟩ := h1
    by_cases h2 : em_I 3 v2
    · obtain ⟨sc, hsc, rfl⟩ := h2
      by_cases h3 : em_I 4 v3
      · obtain ⟨m, hm, rfl⟩ := h3
        by_cases h4 : em_I 4 v4
        · obtain ⟨g, hg, rfl⟩ := h4
          obtain ⟨T, ka, aa, va, hT, ht, ht', hA, hB⟩ := hTok
          refine ex_isThere_t hTh he (br_f em_10 (ex_in_t (N := 3) hsc (by decide) (br_f em_10 (ex_in_t (N := 4) hm (by decide) (br_f em_10 (ex_in_t (N := 4) hg (by decide) (br_f em_10 (ex_whole hT ht hA ?_))))))))
          cases hw : ef_w ka T 0 1
          · refine br_t rfl (ey_search3 (fun fi sr go g1 g2 g3 n => br_t l48 (ey_isThere_t he (br_f em_10 (ey_in_t (N := 3) hsc (by decide) (br_f em_10 (ey_in_t (N := 4) hm (by decide) (br_f em_10 (ey_in_t (N := 4) hg (by decide) (br_f em_10 (ey_whole hT ht' hB ?_)))))))))))
            rw [hw]
            exact br_t rfl ⟨rfl, J fi sr go g1⟩
          · have hF : ef_F ka T := by
              obtain ⟨a, b⟩ := ef_w_i (ka := ka) (T := T) T 0 (Nat.zero_add T) hw
              exact ⟨fun j hj => a j (by omega) hj, b⟩
            have hm' : m = 0 ∨ m = 1 ∨ m = 2 ∨ m = 3 := by omega
            have hx1 : (nI m &&& 1) = 1 ↔ ¬ (nI m &&& 1) = 0 := by
              rcases hm' with rfl | rfl | rfl | rfl <;> decide
            have hx2 : (nI m &&& 2) = 2 ↔ ¬ (nI m &&& 2) = 0 := by
              rcases hm' with rfl | rfl | rfl | rfl <;> decide
            have Vd : et_V b_there (et_ld b_there b_alias 48 (nI e)) := by
              rcases et_ld_V hAlY 48 (nI e) (Or.inr ⟨e, he, rfl⟩) with y | ⟨j, hj, _, y⟩
              · exact Or.inl y
              · exact Or.inr ⟨j, hj, y⟩
            refine br_f em_10 ?_
            by_cases z : (nI m &&& 2) = 0
            · refine br_t z (es_core (b_stack := b_stack) I0 hT ht ht' hA hB hF hsc hg hx1 (fv := nI e) (Or.inr ⟨e, he, rfl⟩) (fun r u' hY => ey_search3 (fun fi sr go g1 g2 g3 n => br_t l48 (ey_isThere_t he (br_f em_10 (ey_in_t (N := 3) hsc (by decide) (br_f em_10 (ey_in_t (N := 4) hm (by decide) (br_f em_10 (ey_in_t (N := 4) hg (by decide) (br_f em_10 (ey_whole hT ht' hB ?_)))))))))) ))
              rw [hw]
              exact br_f em_10 (br_f (fun w => hx2.mp w z) (hY fi sr go g1 g2 g3))
            · refine br_f z (ex_leads hAli hAlY (Or.inr ⟨e, he, rfl⟩) (es_core (b_stack := b_stack) I0 hT ht ht' hA hB hF hsc hg hx1 Vd (fun r u' hY => ey_search3 (fun fi sr go g1 g2 g3 n => br_t l48 (ey_isThere_t he (br_f em_10 (ey_in_t (N := 3) hsc (by decide) (br_f em_10 (ey_in_t (N := 4) hm (by decide) (br_f em_10 (ey_in_t (N := 4) hg (by decide) (br_f em_10 (ey_whole hT ht' hB ?_)))))))))) )))
              rw [hw]
              exact br_f em_10 (br_t (hx2.mpr z) (ey_leadsTo hAlY (Or.inr ⟨e, he, rfl⟩) (hY fi sr go g1 g2 g3)))
        · exact ex_isThere_t hTh he (br_f em_10 (ex_in_t (N := 3) hsc (by decide) (br_f em_10 (ex_in_t (N := 4) hm (by decide) (br_f em_10 (ex_in_f (N := 4) (by decide) h4 (br_t rfl (ey_search3 (fun fi sr go g1 g2 g3 n => br_t l48 (ey_isThere_t he (br_f em_10 (ey_in_t (N := 3) hsc (by decide) (br_f em_10 (ey_in_t (N := 4) hm (by decide) (br_f em_10 (ey_in_f (N := 4) (by decide) h4 (br_t rfl ⟨rfl, J fi sr go g1⟩)))))))))))))))))
      · exact ex_isThere_t hTh he (br_f em_10 (ex_in_t (N := 3) hsc (by decide) (br_f em_10 (ex_in_f (N := 4) (by decide) h3 (br_t rfl (ey_search3 (fun fi sr go g1 g2 g3 n => br_t l48 (ey_isThere_t he (br_f em_10 (ey_in_t (N := 3) hsc (by decide) (br_f em_10 (ey_in_f (N := 4) (by decide) h3 (br_t rfl ⟨rfl, J fi sr go g1⟩)))))))))))))
    · exact ex_isThere_t hTh he (br_f em_10 (ex_in_f (N := 3) (by decide) h2 (br_t rfl (ey_search3 (fun fi sr go g1 g2 g3 n => br_t l48 (ey_isThere_t he (br_f em_10 (ey_in_f (N := 3) (by decide) h2 (br_t rfl ⟨rfl, J fi sr go g1⟩)))))))))
  · exact ex_isThere_f hTh h1 (br_t rfl (ey_search3 (fun fi sr go g1 g2 g3 n => br_t l48 (ey_isThere_f h1 (br_t rfl ⟨rfl, J fi sr go g1⟩)))))
end
