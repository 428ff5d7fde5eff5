section
/-! pure rows to paste: stores, nI and lN arithmetic, masks, shifts, narrowing, branches by naturals (pk_le, pk_lt, pk_eq), loops (lp1 .. lp16: the measure of the state; rp1 ..: recursion), negatives. Take what you need -/
theorem pk_us {f : Nat → Int32} {k : Nat} {x : Int32} : upd f k x k = x := if_pos rfl
theorem pk_un {f : Nat → Int32} {k j : Nat} {x : Int32} (h : j ≠ k) : upd f k x j = f j := if_neg h
theorem pk_uLs {f : Nat → Int64} {k : Nat} {x : Int64} : vp_updL f k x k = x := if_pos rfl
theorem pk_uLn {f : Nat → Int64} {k j : Nat} {x : Int64} (h : j ≠ k) : vp_updL f k x j = f j := if_neg h
theorem pk_sub {a b : Nat} (h : b ≤ a) : nI a - nI b = nI (a - b) := by
  obtain ⟨c, rfl⟩ : ∃ c, a = c + b := ⟨a - b, by omega⟩
  rw [← nI_add, Int32.add_sub_cancel, Nat.add_sub_cancel]
theorem pk_m1 (n : Nat) : nI (n + 1) + (-1) = nI n := by
  rw [← nI_1, Int32.add_assoc, show (1 : Int32) + (-1) = 0 from rfl, Int32.add_zero]
theorem pk_mul (a b : Nat) : nI a * nI b = nI (a * b) := (Int32.ofNat_mul a b).symm
theorem pk_div {a d : Nat} (ha : a < 2 ^ 31) (h0 : 0 < d) (hd : d < 2 ^ 31) : nI a / nI d = nI (a / d) := by
  apply Int32.toInt_inj.mp
  rw [lg_idiv_nonneg (by rw [nI_toInt ha]; omega) (by rw [nI_toInt hd]; omega), nI_toInt ha, nI_toInt hd, nI_toInt (Nat.lt_of_le_of_lt (Nat.div_le_self a d) ha)]
  first | rfl | exact (Int.natCast_ediv _ _).symm
theorem pk_rem {a d : Nat} (ha : a < 2 ^ 31) (h0 : 0 < d) (hd : d < 2 ^ 31) : nI a - nI a / nI d * nI d = nI (a % d) := by
  rw [pk_div ha h0 hd, pk_mul, pk_sub (Nat.div_mul_le_self a d)]
  exact congrArg nI (by have := Nat.div_add_mod' a d; omega)
theorem pk_sub_toInt {a b : Nat} (ha : a < 2 ^ 30) (hb : b < 2 ^ 30) : (nI a - nI b).toInt = (a : Int) - b := by
  rw [Int32.toInt_sub, nI_toInt (by omega), nI_toInt (by omega)]
  exact Int.bmod_eq_of_le (by omega) (by omega)
theorem pk_sneg {a b : Nat} (hb : b < 2 ^ 30) (h : a < b) : nI a - nI b < 0 := by
  rw [Int32.lt_iff_toInt_lt, pk_sub_toInt (by omega) hb, show (0 : Int32).toInt = 0 from by decide]
  omega
theorem pk_ix (x : Int32) {n : Nat} (hn : n < 2 ^ 31) : x < 0 ∨ nI n ≤ x ∨ ∃ j : Nat, j < n ∧ x = nI j := by
  by_cases h : x < 0
  · exact Or.inl h
  · obtain ⟨j, hj, rfl⟩ := nI_of h
    by_cases h2 : j < n
    · exact Or.inr (Or.inr ⟨j, h2, rfl⟩)
    · exact Or.inr (Or.inl (nI_le (by omega) hj))
theorem pk_le {x y : Int32} {A B : Prop} (a b : Nat) (f : a ≤ b → A) (g : b < a → B) (hx : x = nI a := by rfl) (hy : y = nI b := by rfl) (ha : a < 2 ^ 31 := by omega) (hb : b < 2 ^ 31 := by omega) : (x ≤ y → A) ∧ (¬ x ≤ y → B) := by
  subst hx hy
  rw [nI_leI ha hb]
  exact ⟨f, fun z => g (by omega)⟩
theorem pk_lt {x y : Int32} {A B : Prop} (a b : Nat) (f : a < b → A) (g : b ≤ a → B) (hx : x = nI a := by rfl) (hy : y = nI b := by rfl) (ha : a < 2 ^ 31 := by omega) (hb : b < 2 ^ 31 := by omega) : (x < y → A) ∧ (¬ x < y → B) := by
  subst hx hy
  rw [nI_ltI ha hb]
  exact ⟨f, fun z => g (by omega)⟩
theorem pk_eq {x y : Int32} {A B : Prop} (a b : Nat) (f : a = b → A) (g : a ≠ b → B) (hx : x = nI a := by rfl) (hy : y = nI b := by rfl) (ha : a < 2 ^ 31 := by omega) (hb : b < 2 ^ 31 := by omega) : (x = y → A) ∧ (¬ x = y → B) := by
  subst hx hy
  rw [nI_eq ha hb]
  exact ⟨f, g⟩
theorem pk_in {x : Int32} (n N : Nat) (h : n < N) (hx : x = nI n := by rfl) (hN : N < 2 ^ 31 := by omega) : vp_in x N := by
  subst hx
  exact vp_in_nI h hN
theorem pk_cl {x : Int32} (n : Nat) (hx : x = nI n := by rfl) (h : n < 2 ^ 31 := by omega) : x.toNatClampNeg = n := by
  subst hx
  exact nI_clamp h
theorem pk_tn {n : Nat} (h : n < 2 ^ 32) : (nI n).toBitVec.toNat = n := Nat.mod_eq_of_lt h
theorem pk_and (x : Int32) {m : Int32} (k : Nat) (hm : m.toBitVec.toNat = 2 ^ k - 1) : x &&& m = nI (x.toBitVec.toNat % 2 ^ k) := by
  apply Int32.toBitVec_inj.mp
  apply BitVec.eq_of_toNat_eq
  rw [Int32.toBitVec_and, BitVec.toNat_and, hm, Nat.and_two_pow_sub_one_eq_mod]
  show _ = (BitVec.ofNat 32 _).toNat
  rw [BitVec.toNat_ofNat]
  exact (Nat.mod_eq_of_lt (Nat.lt_of_le_of_lt (Nat.mod_le _ _) x.toBitVec.isLt)).symm
theorem pk_andN {n : Nat} (h : n < 2 ^ 32) {m : Int32} (k : Nat) (hm : m.toBitVec.toNat = 2 ^ k - 1) : nI n &&& m = nI (n % 2 ^ k) := by
  rw [pk_and _ k hm, pk_tn h]
theorem pk_andE (x : Int32) {m : Int32} (k : Nat) (hm : m.toBitVec.toNat = 2 ^ k - 1) : ∃ j : Nat, j < 2 ^ k ∧ x &&& m = nI j := ⟨_, Nat.mod_lt _ (Nat.two_pow_pos k), pk_and x k hm⟩
theorem pk_andIn (x : Int32) {m : Int32} (k : Nat) (hm : m.toBitVec.toNat = 2 ^ k - 1) (hk : k ≤ 30) : vp_in (x &&& m) (2 ^ k) := by
  obtain ⟨j, hj, e⟩ := pk_andE x k hm
  rw [e]
  exact vp_in_nI hj (Nat.lt_of_le_of_lt (Nat.pow_le_pow_right (by decide) hk) (by decide))
theorem pk_shl (a s : Int32) (k : Nat) (hs : (s.toBitVec.smod 32).toNat = k) : (a <<< s).toBitVec.toNat = a.toBitVec.toNat * 2 ^ k % 2 ^ 32 := by
  show (a.toBitVec <<< (s.toBitVec.smod 32).toNat).toNat = _
  rw [hs, BitVec.toNat_shiftLeft, Nat.shiftLeft_eq]
theorem pk_shlN {n : Nat} (s : Int32) (k : Nat) (hs : (s.toBitVec.smod 32).toNat = k) (h : n * 2 ^ k < 2 ^ 32) : nI n <<< s = nI (n * 2 ^ k) := by
  apply Int32.toBitVec_inj.mp
  apply BitVec.eq_of_toNat_eq
  have hn : n < 2 ^ 32 := Nat.lt_of_le_of_lt (Nat.le_mul_of_pos_right n (Nat.two_pow_pos k)) h
  rw [pk_shl _ _ k hs, pk_tn hn, pk_tn h, Nat.mod_eq_of_lt h]
theorem pk_shr (a s : Int32) (k : Nat) (hs : (s.toBitVec.smod 32).toNat = k) : (a >>> s).toInt = a.toInt >>> k := by
  show (a.toBitVec.sshiftRight (s.toBitVec.smod 32).toNat).toInt = _
  rw [hs, BitVec.toInt_sshiftRight]
  rfl
theorem pk_shrN {n : Nat} (h : n < 2 ^ 31) (s : Int32) (k : Nat) (hs : (s.toBitVec.smod 32).toNat = k) : nI n >>> s = nI (n / 2 ^ k) := by
  apply Int32.toInt_inj.mp
  have h2 : n / 2 ^ k ≤ n := Nat.div_le_self _ _
  rw [pk_shr _ _ k hs, nI_toInt h, nI_toInt (by omega), Int.shiftRight_eq_div_pow]
  rfl
theorem pk_ushr (x s : Int32) (k : Nat) (hs : ((s.toUInt32 &&& Int32.toUInt32 31).toBitVec % 32).toNat = k) : (x.toUInt32 >>> (s.toUInt32 &&& Int32.toUInt32 31)).toInt32.toBitVec.toNat = x.toBitVec.toNat / 2 ^ k := by
  have e : (x.toUInt32 >>> (s.toUInt32 &&& Int32.toUInt32 31)).toInt32.toBitVec = x.toBitVec >>> k := by
    rw [← hs]
    exact UInt32.toBitVec_shiftRight _ _
  rw [e, BitVec.toNat_ushiftRight, Nat.shiftRight_eq_div_pow]
theorem pk_ushrN {n : Nat} (hn : n < 2 ^ 32) (s : Int32) (k : Nat) (hs : ((s.toUInt32 &&& Int32.toUInt32 31).toBitVec % 32).toNat = k) : ((nI n).toUInt32 >>> (s.toUInt32 &&& Int32.toUInt32 31)).toInt32 = nI (n / 2 ^ k) := by
  apply Int32.toBitVec_inj.mp
  apply BitVec.eq_of_toNat_eq
  rw [pk_ushr _ s k hs, pk_tn hn, pk_tn (Nat.lt_of_le_of_lt (Nat.div_le_self _ _) hn)]
theorem pk_nb (z : Int32) : narrow .byte (.int z.toInt8.toInt32) = .int z.toInt8.toInt32 := congrArg Value.int (by simp)
theorem pk_ns (z : Int32) : narrow .short (.int z.toInt16.toInt32) = .int z.toInt16.toInt32 := congrArg Value.int (by simp)
theorem pk_fb (r : Int32) : fits .byte (.int r.toInt8.toInt32) = true := by
  have ⟨a, b⟩ := lg_i2b_range r
  have h1 : (-128 : Int32).toInt = -128 := by decide
  have h2 : (127 : Int32).toInt = 127 := by decide
  simp only [fits, Bool.and_eq_true, decide_eq_true_eq, Int32.le_iff_toInt_le, h1, h2]
  omega
theorem pk_fs (r : Int32) : fits .short (.int r.toInt16.toInt32) = true := by
  have ⟨a, b⟩ := lg_i2s_range r
  have h1 : (-32768 : Int32).toInt = -32768 := by decide
  have h2 : (32767 : Int32).toInt = 32767 := by decide
  simp only [fits, Bool.and_eq_true, decide_eq_true_eq, Int32.le_iff_toInt_le, h1, h2]
  omega
theorem pk_charN {q : Nat} (hq : q < 65536) : narrow .char (.int (nI q)) = .int (nI q) ∧ fits .char (.int (nI q)) = true := by
  constructor
  · have e : (nI q).toUInt32.toUInt16.toUInt32.toInt32 = nI q := by
      apply Int32.toBitVec_inj.mp
      apply BitVec.eq_of_toNat_eq
      show (nI q).toUInt32.toUInt16.toUInt32.toNat = q % 2 ^ 32
      rw [UInt16.toNat_toUInt32, UInt32.toNat_toUInt16, show (nI q).toUInt32.toNat = q % 2 ^ 32 from rfl]
      omega
    exact congrArg Value.int e
  · have a : (0 : Int32) ≤ nI q := nI_pos' (by omega)
    have b : nI q ≤ 65535 := nI_le (b := 65535) (by omega) (by decide)
    show (decide ((0 : Int32) ≤ nI q) && decide (nI q ≤ 65535)) = true
    rw [decide_eq_true a, decide_eq_true b]
    rfl
theorem pk_char (x : Int32) : (x.toUInt32 % 65536).toInt32 = nI (x.toBitVec.toNat % 65536) := by
  apply Int32.toBitVec_inj.mp
  apply BitVec.eq_of_toNat_eq
  rw [pk_tn (by omega)]
  show (x.toUInt32 % 65536).toNat = _
  rw [UInt32.toNat_mod]
  rfl
theorem pk_nc (x : Int32) : narrow .char (.int (x.toUInt32 % 65536).toInt32) = .int (x.toUInt32 % 65536).toInt32 := by
  rw [pk_char]
  exact (pk_charN (Nat.mod_lt _ (by decide))).1
theorem pk_fc (x : Int32) : fits .char (.int (x.toUInt32 % 65536).toInt32) = true := by
  rw [pk_char]
  exact (pk_charN (Nat.mod_lt _ (by decide))).2
theorem pk_vb (z : Int32) : vp_nar .byte z.toInt8.toInt32 = z.toInt8.toInt32 := by rw [vp_nar_byte]; simp
theorem pk_vs (z : Int32) : vp_nar .short z.toInt16.toInt32 = z.toInt16.toInt32 := by rw [vp_nar_short]; simp
theorem pk_vc (z : Int32) : vp_nar .char (z.toUInt32 % 65536).toInt32 = (z.toUInt32 % 65536).toInt32 := Value.int.inj (pk_nc z)
theorem pk_lT {n : Nat} (h : n < 2 ^ 63) : (lN n).toInt = (n : Int) := lg_ofNat_toInt h
theorem pk_lLT {a b : Nat} (ha : a < 2 ^ 63) (hb : b < 2 ^ 63) : lN a < lN b ↔ a < b := by
  rw [Int64.lt_iff_toInt_lt, pk_lT ha, pk_lT hb]; omega
theorem pk_lLE {a b : Nat} (ha : a < 2 ^ 63) (hb : b < 2 ^ 63) : lN a ≤ lN b ↔ a ≤ b := by
  rw [Int64.le_iff_toInt_le, pk_lT ha, pk_lT hb]; omega
theorem pk_lEQ {a b : Nat} (ha : a < 2 ^ 63) (hb : b < 2 ^ 63) : lN a = lN b ↔ a = b := by
  rw [← Int64.toInt_inj, pk_lT ha, pk_lT hb]; omega
theorem pk_lOf {x : Int64} (h : ¬ x < 0) : ∃ k : Nat, k < 2 ^ 63 ∧ x = lN k := by
  rw [Int64.lt_iff_toInt_lt] at h
  have h0 : (0 : Int64).toInt = 0 := by decide
  have hx := Int64.toInt_lt x
  refine ⟨x.toInt.toNat, by omega, Int64.toInt_inj.mp ?_⟩
  rw [pk_lT (by omega)]
  omega
theorem pk_lDiv {a b : Nat} (ha : a < 2 ^ 63) (h0 : 0 < b) (hb : b < 2 ^ 63) : lN a / lN b = lN (a / b) := by
  apply Int64.toInt_inj.mp
  rw [lg_ldiv_nonneg (by rw [pk_lT ha]; omega) (by rw [pk_lT hb]; omega), pk_lT ha, pk_lT hb, pk_lT (Nat.lt_of_le_of_lt (Nat.div_le_self a b) ha)]
  rfl
theorem pk_lRem {a b : Nat} (ha : a < 2 ^ 63) (h0 : 0 < b) (hb : b < 2 ^ 63) : lN a - lN a / lN b * lN b = lN (a % b) := by
  rw [pk_lDiv ha h0 hb, lN_mul, lN_sub (Nat.div_mul_le_self a b)]
  exact congrArg lN (by have := Nat.div_add_mod' a b; omega)
theorem pk_loop {σ : Type} (W : Nat → Nat → σ → Prop) (I : Nat → σ → Prop) (e i0 : Nat) (s : σ) (hi : i0 ≤ e) (h0 : I i0 s) (hx : ∀ n s, I e s → W (n + 1) e s)
    (hs : ∀ n i s, i < e → I i s → (∀ s', I (i + 1) s' → W n (i + 1) s') → W (n + 1) i s) : ∃ n, W n i0 s :=
  ⟨e + 1, loop_i W I e hx hs (e + 1) i0 s hi (by omega) h0⟩
theorem pk_loopD {σ : Type} (W : Nat → Nat → σ → Prop) (I : Nat → σ → Prop) (hx : ∀ n s, I 0 s → W (n + 1) 0 s)
    (hs : ∀ n i s, I (i + 1) s → (∀ s', I i s' → W n i s') → W (n + 1) (i + 1) s) : ∀ (e : Nat) (s : σ), I e s → W (e + 1) e s := by
  intro e
  induction e with
  | zero => exact fun s h => hx 0 s h
  | succ e ih => exact fun s h => hs (e + 1) e s h (fun s' h' => ih s' h')
theorem lp1 {A1 : Type} (W : Nat → A1 → Prop) (I : A1 → Prop) (μ : A1 → Nat) (hs : ∀ (n : Nat) (a1 : A1), I a1 → (∀ (b1 : A1), I b1 → μ b1 < μ a1 → W n b1) → W (n + 1) a1) (a1 : A1) (h : I a1) : ∃ n, W n a1 :=
  loop_m (σ := A1) (fun n s => W n s) (fun s => I s) (fun s => μ s) (fun n s hI hk => hs n s hI (fun b1 h9 hm => hk b1 h9 hm)) a1 h
theorem lp2 {A1 A2 : Type} (W : Nat → A1 → A2 → Prop) (I : A1 → A2 → Prop) (μ : A1 → A2 → Nat) (hs : ∀ (n : Nat) (a1 : A1) (a2 : A2), I a1 a2 → (∀ (b1 : A1) (b2 : A2), I b1 b2 → μ b1 b2 < μ a1 a2 → W n b1 b2) → W (n + 1) a1 a2) (a1 : A1) (a2 : A2) (h : I a1 a2) : ∃ n, W n a1 a2 :=
  loop_m (σ := A1 × A2) (fun n s => W n s.1 s.2) (fun s => I s.1 s.2) (fun s => μ s.1 s.2) (fun n s hI hk => hs n s.1 s.2 hI (fun b1 b2 h9 hm => hk (b1, b2) h9 hm)) (a1, a2) h
theorem lp3 {A1 A2 A3 : Type} (W : Nat → A1 → A2 → A3 → Prop) (I : A1 → A2 → A3 → Prop) (μ : A1 → A2 → A3 → Nat) (hs : ∀ (n : Nat) (a1 : A1) (a2 : A2) (a3 : A3), I a1 a2 a3 → (∀ (b1 : A1) (b2 : A2) (b3 : A3), I b1 b2 b3 → μ b1 b2 b3 < μ a1 a2 a3 → W n b1 b2 b3) → W (n + 1) a1 a2 a3) (a1 : A1) (a2 : A2) (a3 : A3) (h : I a1 a2 a3) : ∃ n, W n a1 a2 a3 :=
  loop_m (σ := A1 × A2 × A3) (fun n s => W n s.1 s.2.1 s.2.2) (fun s => I s.1 s.2.1 s.2.2) (fun s => μ s.1 s.2.1 s.2.2) (fun n s hI hk => hs n s.1 s.2.1 s.2.2 hI (fun b1 b2 b3 h9 hm => hk (b1, b2, b3) h9 hm)) (a1, a2, a3) h
theorem lp4 {A1 A2 A3 A4 : Type} (W : Nat → A1 → A2 → A3 → A4 → Prop) (I : A1 → A2 → A3 → A4 → Prop) (μ : A1 → A2 → A3 → A4 → Nat) (hs : ∀ (n : Nat) (a1 : A1) (a2 : A2) (a3 : A3) (a4 : A4), I a1 a2 a3 a4 → (∀ (b1 : A1) (b2 : A2) (b3 : A3) (b4 : A4), I b1 b2 b3 b4 → μ b1 b2 b3 b4 < μ a1 a2 a3 a4 → W n b1 b2 b3 b4) → W (n + 1) a1 a2 a3 a4) (a1 : A1) (a2 : A2) (a3 : A3) (a4 : A4) (h : I a1 a2 a3 a4) : ∃ n, W n a1 a2 a3 a4 :=
  loop_m (σ := A1 × A2 × A3 × A4) (fun n s => W n s.1 s.2.1 s.2.2.1 s.2.2.2) (fun s => I s.1 s.2.1 s.2.2.1 s.2.2.2) (fun s => μ s.1 s.2.1 s.2.2.1 s.2.2.2) (fun n s hI hk => hs n s.1 s.2.1 s.2.2.1 s.2.2.2 hI (fun b1 b2 b3 b4 h9 hm => hk (b1, b2, b3, b4) h9 hm)) (a1, a2, a3, a4) h
theorem lp5 {A1 A2 A3 A4 A5 : Type} (W : Nat → A1 → A2 → A3 → A4 → A5 → Prop) (I : A1 → A2 → A3 → A4 → A5 → Prop) (μ : A1 → A2 → A3 → A4 → A5 → Nat) (hs : ∀ (n : Nat) (a1 : A1) (a2 : A2) (a3 : A3) (a4 : A4) (a5 : A5), I a1 a2 a3 a4 a5 → (∀ (b1 : A1) (b2 : A2) (b3 : A3) (b4 : A4) (b5 : A5), I b1 b2 b3 b4 b5 → μ b1 b2 b3 b4 b5 < μ a1 a2 a3 a4 a5 → W n b1 b2 b3 b4 b5) → W (n + 1) a1 a2 a3 a4 a5) (a1 : A1) (a2 : A2) (a3 : A3) (a4 : A4) (a5 : A5) (h : I a1 a2 a3 a4 a5) : ∃ n, W n a1 a2 a3 a4 a5 :=
  loop_m (σ := A1 × A2 × A3 × A4 × A5) (fun n s => W n s.1 s.2.1 s.2.2.1 s.2.2.2.1 s.2.2.2.2) (fun s => I s.1 s.2.1 s.2.2.1 s.2.2.2.1 s.2.2.2.2) (fun s => μ s.1 s.2.1 s.2.2.1 s.2.2.2.1 s.2.2.2.2) (fun n s hI hk => hs n s.1 s.2.1 s.2.2.1 s.2.2.2.1 s.2.2.2.2 hI (fun b1 b2 b3 b4 b5 h9 hm => hk (b1, b2, b3, b4, b5) h9 hm)) (a1, a2, a3, a4, a5) h
theorem lp6 {A1 A2 A3 A4 A5 A6 : Type} (W : Nat → A1 → A2 → A3 → A4 → A5 → A6 → Prop) (I : A1 → A2 → A3 → A4 → A5 → A6 → Prop) (μ : A1 → A2 → A3 → A4 → A5 → A6 → Nat) (hs : ∀ (n : Nat) (a1 : A1) (a2 : A2) (a3 : A3) (a4 : A4) (a5 : A5) (a6 : A6), I a1 a2 a3 a4 a5 a6 → (∀ (b1 : A1) (b2 : A2) (b3 : A3) (b4 : A4) (b5 : A5) (b6 : A6), I b1 b2 b3 b4 b5 b6 → μ b1 b2 b3 b4 b5 b6 < μ a1 a2 a3 a4 a5 a6 → W n b1 b2 b3 b4 b5 b6) → W (n + 1) a1 a2 a3 a4 a5 a6) (a1 : A1) (a2 : A2) (a3 : A3) (a4 : A4) (a5 : A5) (a6 : A6) (h : I a1 a2 a3 a4 a5 a6) : ∃ n, W n a1 a2 a3 a4 a5 a6 :=
  loop_m (σ := A1 × A2 × A3 × A4 × A5 × A6) (fun n s => W n s.1 s.2.1 s.2.2.1 s.2.2.2.1 s.2.2.2.2.1 s.2.2.2.2.2) (fun s => I s.1 s.2.1 s.2.2.1 s.2.2.2.1 s.2.2.2.2.1 s.2.2.2.2.2) (fun s => μ s.1 s.2.1 s.2.2.1 s.2.2.2.1 s.2.2.2.2.1 s.2.2.2.2.2) (fun n s hI hk => hs n s.1 s.2.1 s.2.2.1 s.2.2.2.1 s.2.2.2.2.1 s.2.2.2.2.2 hI (fun b1 b2 b3 b4 b5 b6 h9 hm => hk (b1, b2, b3, b4, b5, b6) h9 hm)) (a1, a2, a3, a4, a5, a6) h
theorem lp7 {A1 A2 A3 A4 A5 A6 A7 : Type} (W : Nat → A1 → A2 → A3 → A4 → A5 → A6 → A7 → Prop) (I : A1 → A2 → A3 → A4 → A5 → A6 → A7 → Prop) (μ : A1 → A2 → A3 → A4 → A5 → A6 → A7 → Nat) (hs : ∀ (n : Nat) (a1 : A1) (a2 : A2) (a3 : A3) (a4 : A4) (a5 : A5) (a6 : A6) (a7 : A7), I a1 a2 a3 a4 a5 a6 a7 → (∀ (b1 : A1) (b2 : A2) (b3 : A3) (b4 : A4) (b5 : A5) (b6 : A6) (b7 : A7), I b1 b2 b3 b4 b5 b6 b7 → μ b1 b2 b3 b4 b5 b6 b7 < μ a1 a2 a3 a4 a5 a6 a7 → W n b1 b2 b3 b4 b5 b6 b7) → W (n + 1) a1 a2 a3 a4 a5 a6 a7) (a1 : A1) (a2 : A2) (a3 : A3) (a4 : A4) (a5 : A5) (a6 : A6) (a7 : A7) (h : I a1 a2 a3 a4 a5 a6 a7) : ∃ n, W n a1 a2 a3 a4 a5 a6 a7 :=
  loop_m (σ := A1 × A2 × A3 × A4 × A5 × A6 × A7) (fun n s => W n s.1 s.2.1 s.2.2.1 s.2.2.2.1 s.2.2.2.2.1 s.2.2.2.2.2.1 s.2.2.2.2.2.2) (fun s => I s.1 s.2.1 s.2.2.1 s.2.2.2.1 s.2.2.2.2.1 s.2.2.2.2.2.1 s.2.2.2.2.2.2) (fun s => μ s.1 s.2.1 s.2.2.1 s.2.2.2.1 s.2.2.2.2.1 s.2.2.2.2.2.1 s.2.2.2.2.2.2) (fun n s hI hk => hs n s.1 s.2.1 s.2.2.1 s.2.2.2.1 s.2.2.2.2.1 s.2.2.2.2.2.1 s.2.2.2.2.2.2 hI (fun b1 b2 b3 b4 b5 b6 b7 h9 hm => hk (b1, b2, b3, b4, b5, b6, b7) h9 hm)) (a1, a2, a3, a4, a5, a6, a7) h
theorem lp8 {A1 A2 A3 A4 A5 A6 A7 A8 : Type} (W : Nat → A1 → A2 → A3 → A4 → A5 → A6 → A7 → A8 → Prop) (I : A1 → A2 → A3 → A4 → A5 → A6 → A7 → A8 → Prop) (μ : A1 → A2 → A3 → A4 → A5 → A6 → A7 → A8 → Nat) (hs : ∀ (n : Nat) (a1 : A1) (a2 : A2) (a3 : A3) (a4 : A4) (a5 : A5) (a6 : A6) (a7 : A7) (a8 : A8), I a1 a2 a3 a4 a5 a6 a7 a8 → (∀ (b1 : A1) (b2 : A2) (b3 : A3) (b4 : A4) (b5 : A5) (b6 : A6) (b7 : A7) (b8 : A8), I b1 b2 b3 b4 b5 b6 b7 b8 → μ b1 b2 b3 b4 b5 b6 b7 b8 < μ a1 a2 a3 a4 a5 a6 a7 a8 → W n b1 b2 b3 b4 b5 b6 b7 b8) → W (n + 1) a1 a2 a3 a4 a5 a6 a7 a8) (a1 : A1) (a2 : A2) (a3 : A3) (a4 : A4) (a5 : A5) (a6 : A6) (a7 : A7) (a8 : A8) (h : I a1 a2 a3 a4 a5 a6 a7 a8) : ∃ n, W n a1 a2 a3 a4 a5 a6 a7 a8 :=
  loop_m (σ := A1 × A2 × A3 × A4 × A5 × A6 × A7 × A8) (fun n s => W n s.1 s.2.1 s.2.2.1 s.2.2.2.1 s.2.2.2.2.1 s.2.2.2.2.2.1 s.2.2.2.2.2.2.1 s.2.2.2.2.2.2.2) (fun s => I s.1 s.2.1 s.2.2.1 s.2.2.2.1 s.2.2.2.2.1 s.2.2.2.2.2.1 s.2.2.2.2.2.2.1 s.2.2.2.2.2.2.2) (fun s => μ s.1 s.2.1 s.2.2.1 s.2.2.2.1 s.2.2.2.2.1 s.2.2.2.2.2.1 s.2.2.2.2.2.2.1 s.2.2.2.2.2.2.2) (fun n s hI hk => hs n s.1 s.2.1 s.2.2.1 s.2.2.2.1 s.2.2.2.2.1 s.2.2.2.2.2.1 s.2.2.2.2.2.2.1 s.2.2.2.2.2.2.2 hI (fun b1 b2 b3 b4 b5 b6 b7 b8 h9 hm => hk (b1, b2, b3, b4, b5, b6, b7, b8) h9 hm)) (a1, a2, a3, a4, a5, a6, a7, a8) h
theorem lp9 {A1 A2 A3 A4 A5 A6 A7 A8 A9 : Type} (W : Nat → A1 → A2 → A3 → A4 → A5 → A6 → A7 → A8 → A9 → Prop) (I : A1 → A2 → A3 → A4 → A5 → A6 → A7 → A8 → A9 → Prop) (μ : A1 → A2 → A3 → A4 → A5 → A6 → A7 → A8 → A9 → Nat) (hs : ∀ (n : Nat) (a1 : A1) (a2 : A2) (a3 : A3) (a4 : A4) (a5 : A5) (a6 : A6) (a7 : A7) (a8 : A8) (a9 : A9), I a1 a2 a3 a4 a5 a6 a7 a8 a9 → (∀ (b1 : A1) (b2 : A2) (b3 : A3) (b4 : A4) (b5 : A5) (b6 : A6) (b7 : A7) (b8 : A8) (b9 : A9), I b1 b2 b3 b4 b5 b6 b7 b8 b9 → μ b1 b2 b3 b4 b5 b6 b7 b8 b9 < μ a1 a2 a3 a4 a5 a6 a7 a8 a9 → W n b1 b2 b3 b4 b5 b6 b7 b8 b9) → W (n + 1) a1 a2 a3 a4 a5 a6 a7 a8 a9) (a1 : A1) (a2 : A2) (a3 : A3) (a4 : A4) (a5 : A5) (a6 : A6) (a7 : A7) (a8 : A8) (a9 : A9) (h : I a1 a2 a3 a4 a5 a6 a7 a8 a9) : ∃ n, W n a1 a2 a3 a4 a5 a6 a7 a8 a9 :=
  loop_m (σ := A1 × A2 × A3 × A4 × A5 × A6 × A7 × A8 × A9) (fun n s => W n s.1 s.2.1 s.2.2.1 s.2.2.2.1 s.2.2.2.2.1 s.2.2.2.2.2.1 s.2.2.2.2.2.2.1 s.2.2.2.2.2.2.2.1 s.2.2.2.2.2.2.2.2) (fun s => I s.1 s.2.1 s.2.2.1 s.2.2.2.1 s.2.2.2.2.1 s.2.2.2.2.2.1 s.2.2.2.2.2.2.1 s.2.2.2.2.2.2.2.1 s.2.2.2.2.2.2.2.2) (fun s => μ s.1 s.2.1 s.2.2.1 s.2.2.2.1 s.2.2.2.2.1 s.2.2.2.2.2.1 s.2.2.2.2.2.2.1 s.2.2.2.2.2.2.2.1 s.2.2.2.2.2.2.2.2) (fun n s hI hk => hs n s.1 s.2.1 s.2.2.1 s.2.2.2.1 s.2.2.2.2.1 s.2.2.2.2.2.1 s.2.2.2.2.2.2.1 s.2.2.2.2.2.2.2.1 s.2.2.2.2.2.2.2.2 hI (fun b1 b2 b3 b4 b5 b6 b7 b8 b9 h9 hm => hk (b1, b2, b3, b4, b5, b6, b7, b8, b9) h9 hm)) (a1, a2, a3, a4, a5, a6, a7, a8, a9) h
theorem lp10 {A1 A2 A3 A4 A5 A6 A7 A8 A9 A10 : Type} (W : Nat → A1 → A2 → A3 → A4 → A5 → A6 → A7 → A8 → A9 → A10 → Prop) (I : A1 → A2 → A3 → A4 → A5 → A6 → A7 → A8 → A9 → A10 → Prop) (μ : A1 → A2 → A3 → A4 → A5 → A6 → A7 → A8 → A9 → A10 → Nat) (hs : ∀ (n : Nat) (a1 : A1) (a2 : A2) (a3 : A3) (a4 : A4) (a5 : A5) (a6 : A6) (a7 : A7) (a8 : A8) (a9 : A9) (a10 : A10), I a1 a2 a3 a4 a5 a6 a7 a8 a9 a10 → (∀ (b1 : A1) (b2 : A2) (b3 : A3) (b4 : A4) (b5 : A5) (b6 : A6) (b7 : A7) (b8 : A8) (b9 : A9) (b10 : A10), I b1 b2 b3 b4 b5 b6 b7 b8 b9 b10 → μ b1 b2 b3 b4 b5 b6 b7 b8 b9 b10 < μ a1 a2 a3 a4 a5 a6 a7 a8 a9 a10 → W n b1 b2 b3 b4 b5 b6 b7 b8 b9 b10) → W (n + 1) a1 a2 a3 a4 a5 a6 a7 a8 a9 a10) (a1 : A1) (a2 : A2) (a3 : A3) (a4 : A4) (a5 : A5) (a6 : A6) (a7 : A7) (a8 : A8) (a9 : A9) (a10 : A10) (h : I a1 a2 a3 a4 a5 a6 a7 a8 a9 a10) : ∃ n, W n a1 a2 a3 a4 a5 a6 a7 a8 a9 a10 :=
  loop_m (σ := A1 × A2 × A3 × A4 × A5 × A6 × A7 × A8 × A9 × A10) (fun n s => W n s.1 s.2.1 s.2.2.1 s.2.2.2.1 s.2.2.2.2.1 s.2.2.2.2.2.1 s.2.2.2.2.2.2.1 s.2.2.2.2.2.2.2.1 s.2.2.2.2.2.2.2.2.1 s.2.2.2.2.2.2.2.2.2) (fun s => I s.1 s.2.1 s.2.2.1 s.2.2.2.1 s.2.2.2.2.1 s.2.2.2.2.2.1 s.2.2.2.2.2.2.1 s.2.2.2.2.2.2.2.1 s.2.2.2.2.2.2.2.2.1 s.2.2.2.2.2.2.2.2.2) (fun s => μ s.1 s.2.1 s.2.2.1 s.2.2.2.1 s.2.2.2.2.1 s.2.2.2.2.2.1 s.2.2.2.2.2.2.1 s.2.2.2.2.2.2.2.1 s.2.2.2.2.2.2.2.2.1 s.2.2.2.2.2.2.2.2.2) (fun n s hI hk => hs n s.1 s.2.1 s.2.2.1 s.2.2.2.1 s.2.2.2.2.1 s.2.2.2.2.2.1 s.2.2.2.2.2.2.1 s.2.2.2.2.2.2.2.1 s.2.2.2.2.2.2.2.2.1 s.2.2.2.2.2.2.2.2.2 hI (fun b1 b2 b3 b4 b5 b6 b7 b8 b9 b10 h9 hm => hk (b1, b2, b3, b4, b5, b6, b7, b8, b9, b10) h9 hm)) (a1, a2, a3, a4, a5, a6, a7, a8, a9, a10) h
theorem lp11 {A1 A2 A3 A4 A5 A6 A7 A8 A9 A10 A11 : Type} (W : Nat → A1 → A2 → A3 → A4 → A5 → A6 → A7 → A8 → A9 → A10 → A11 → Prop) (I : A1 → A2 → A3 → A4 → A5 → A6 → A7 → A8 → A9 → A10 → A11 → Prop) (μ : A1 → A2 → A3 → A4 → A5 → A6 → A7 → A8 → A9 → A10 → A11 → Nat) (hs : ∀ (n : Nat) (a1 : A1) (a2 : A2) (a3 : A3) (a4 : A4) (a5 : A5) (a6 : A6) (a7 : A7) (a8 : A8) (a9 : A9) (a10 : A10) (a11 : A11), I a1 a2 a3 a4 a5 a6 a7 a8 a9 a10 a11 → (∀ (b1 : A1) (b2 : A2) (b3 : A3) (b4 : A4) (b5 : A5) (b6 : A6) (b7 : A7) (b8 : A8) (b9 : A9) (b10 : A10) (b11 : A11), I b1 b2 b3 b4 b5 b6 b7 b8 b9 b10 b11 → μ b1 b2 b3 b4 b5 b6 b7 b8 b9 b10 b11 < μ a1 a2 a3 a4 a5 a6 a7 a8 a9 a10 a11 → W n b1 b2 b3 b4 b5 b6 b7 b8 b9 b10 b11) → W (n + 1) a1 a2 a3 a4 a5 a6 a7 a8 a9 a10 a11) (a1 : A1) (a2 : A2) (a3 : A3) (a4 : A4) (a5 : A5) (a6 : A6) (a7 : A7) (a8 : A8) (a9 : A9) (a10 : A10) (a11 : A11) (h : I a1 a2 a3 a4 a5 a6 a7 a8 a9 a10 a11) : ∃ n, W n a1 a2 a3 a4 a5 a6 a7 a8 a9 a10 a11 :=
  loop_m (σ := A1 × A2 × A3 × A4 × A5 × A6 × A7 × A8 × A9 × A10 × A11) (fun n s => W n s.1 s.2.1 s.2.2.1 s.2.2.2.1 s.2.2.2.2.1 s.2.2.2.2.2.1 s.2.2.2.2.2.2.1 s.2.2.2.2.2.2.2.1 s.2.2.2.2.2.2.2.2.1 s.2.2.2.2.2.2.2.2.2.1 s.2.2.2.2.2.2.2.2.2.2) (fun s => I s.1 s.2.1 s.2.2.1 s.2.2.2.1 s.2.2.2.2.1 s.2.2.2.2.2.1 s.2.2.2.2.2.2.1 s.2.2.2.2.2.2.2.1 s.2.2.2.2.2.2.2.2.1 s.2.2.2.2.2.2.2.2.2.1 s.2.2.2.2.2.2.2.2.2.2) (fun s => μ s.1 s.2.1 s.2.2.1 s.2.2.2.1 s.2.2.2.2.1 s.2.2.2.2.2.1 s.2.2.2.2.2.2.1 s.2.2.2.2.2.2.2.1 s.2.2.2.2.2.2.2.2.1 s.2.2.2.2.2.2.2.2.2.1 s.2.2.2.2.2.2.2.2.2.2) (fun n s hI hk => hs n s.1 s.2.1 s.2.2.1 s.2.2.2.1 s.2.2.2.2.1 s.2.2.2.2.2.1 s.2.2.2.2.2.2.1 s.2.2.2.2.2.2.2.1 s.2.2.2.2.2.2.2.2.1 s.2.2.2.2.2.2.2.2.2.1 s.2.2.2.2.2.2.2.2.2.2 hI (fun b1 b2 b3 b4 b5 b6 b7 b8 b9 b10 b11 h9 hm => hk (b1, b2, b3, b4, b5, b6, b7, b8, b9, b10, b11) h9 hm)) (a1, a2, a3, a4, a5, a6, a7, a8, a9, a10, a11) h
theorem lp12 {A1 A2 A3 A4 A5 A6 A7 A8 A9 A10 A11 A12 : Type} (W : Nat → A1 → A2 → A3 → A4 → A5 → A6 → A7 → A8 → A9 → A10 → A11 → A12 → Prop) (I : A1 → A2 → A3 → A4 → A5 → A6 → A7 → A8 → A9 → A10 → A11 → A12 → Prop) (μ : A1 → A2 → A3 → A4 → A5 → A6 → A7 → A8 → A9 → A10 → A11 → A12 → Nat) (hs : ∀ (n : Nat) (a1 : A1) (a2 : A2) (a3 : A3) (a4 : A4) (a5 : A5) (a6 : A6) (a7 : A7) (a8 : A8) (a9 : A9) (a10 : A10) (a11 : A11) (a12 : A12), I a1 a2 a3 a4 a5 a6 a7 a8 a9 a10 a11 a12 → (∀ (b1 : A1) (b2 : A2) (b3 : A3) (b4 : A4) (b5 : A5) (b6 : A6) (b7 : A7) (b8 : A8) (b9 : A9) (b10 : A10) (b11 : A11) (b12 : A12), I b1 b2 b3 b4 b5 b6 b7 b8 b9 b10 b11 b12 → μ b1 b2 b3 b4 b5 b6 b7 b8 b9 b10 b11 b12 < μ a1 a2 a3 a4 a5 a6 a7 a8 a9 a10 a11 a12 → W n b1 b2 b3 b4 b5 b6 b7 b8 b9 b10 b11 b12) → W (n + 1) a1 a2 a3 a4 a5 a6 a7 a8 a9 a10 a11 a12) (a1 : A1) (a2 : A2) (a3 : A3) (a4 : A4) (a5 : A5) (a6 : A6) (a7 : A7) (a8 : A8) (a9 : A9) (a10 : A10) (a11 : A11) (a12 : A12) (h : I a1 a2 a3 a4 a5 a6 a7 a8 a9 a10 a11 a12) : ∃ n, W n a1 a2 a3 a4 a5 a6 a7 a8 a9 a10 a11 a12 :=
  loop_m (σ := A1 × A2 × A3 × A4 × A5 × A6 × A7 × A8 × A9 × A10 × A11 × A12) (fun n s => W n s.1 s.2.1 s.2.2.1 s.2.2.2.1 s.2.2.2.2.1 s.2.2.2.2.2.1 s.2.2.2.2.2.2.1 s.2.2.2.2.2.2.2.1 s.2.2.2.2.2.2.2.2.1 s.2.2.2.2.2.2.2.2.2.1 s.2.2.2.2.2.2.2.2.2.2.1 s.2.2.2.2.2.2.2.2.2.2.2) (fun s => I s.1 s.2.1 s.2.2.1 s.2.2.2.1 s.2.2.2.2.1 s.2.2.2.2.2.1 s.2.2.2.2.2.2.1 s.2.2.2.2.2.2.2.1 s.2.2.2.2.2.2.2.2.1 s.2.2.2.2.2.2.2.2.2.1 s.2.2.2.2.2.2.2.2.2.2.1 s.2.2.2.2.2.2.2.2.2.2.2) (fun s => μ s.1 s.2.1 s.2.2.1 s.2.2.2.1 s.2.2.2.2.1 s.2.2.2.2.2.1 s.2.2.2.2.2.2.1 s.2.2.2.2.2.2.2.1 s.2.2.2.2.2.2.2.2.1 s.2.2.2.2.2.2.2.2.2.1 s.2.2.2.2.2.2.2.2.2.2.1 s.2.2.2.2.2.2.2.2.2.2.2) (fun n s hI hk => hs n s.1 s.2.1 s.2.2.1 s.2.2.2.1 s.2.2.2.2.1 s.2.2.2.2.2.1 s.2.2.2.2.2.2.1 s.2.2.2.2.2.2.2.1 s.2.2.2.2.2.2.2.2.1 s.2.2.2.2.2.2.2.2.2.1 s.2.2.2.2.2.2.2.2.2.2.1 s.2.2.2.2.2.2.2.2.2.2.2 hI (fun b1 b2 b3 b4 b5 b6 b7 b8 b9 b10 b11 b12 h9 hm => hk (b1, b2, b3, b4, b5, b6, b7, b8, b9, b10, b11, b12) h9 hm)) (a1, a2, a3, a4, a5, a6, a7, a8, a9, a10, a11, a12) h
theorem lp13 {A1 A2 A3 A4 A5 A6 A7 A8 A9 A10 A11 A12 A13 : Type} (W : Nat → A1 → A2 → A3 → A4 → A5 → A6 → A7 → A8 → A9 → A10 → A11 → A12 → A13 → Prop) (I : A1 → A2 → A3 → A4 → A5 → A6 → A7 → A8 → A9 → A10 → A11 → A12 → A13 → Prop) (μ : A1 → A2 → A3 → A4 → A5 → A6 → A7 → A8 → A9 → A10 → A11 → A12 → A13 → Nat) (hs : ∀ (n : Nat) (a1 : A1) (a2 : A2) (a3 : A3) (a4 : A4) (a5 : A5) (a6 : A6) (a7 : A7) (a8 : A8) (a9 : A9) (a10 : A10) (a11 : A11) (a12 : A12) (a13 : A13), I a1 a2 a3 a4 a5 a6 a7 a8 a9 a10 a11 a12 a13 → (∀ (b1 : A1) (b2 : A2) (b3 : A3) (b4 : A4) (b5 : A5) (b6 : A6) (b7 : A7) (b8 : A8) (b9 : A9) (b10 : A10) (b11 : A11) (b12 : A12) (b13 : A13), I b1 b2 b3 b4 b5 b6 b7 b8 b9 b10 b11 b12 b13 → μ b1 b2 b3 b4 b5 b6 b7 b8 b9 b10 b11 b12 b13 < μ a1 a2 a3 a4 a5 a6 a7 a8 a9 a10 a11 a12 a13 → W n b1 b2 b3 b4 b5 b6 b7 b8 b9 b10 b11 b12 b13) → W (n + 1) a1 a2 a3 a4 a5 a6 a7 a8 a9 a10 a11 a12 a13) (a1 : A1) (a2 : A2) (a3 : A3) (a4 : A4) (a5 : A5) (a6 : A6) (a7 : A7) (a8 : A8) (a9 : A9) (a10 : A10) (a11 : A11) (a12 : A12) (a13 : A13) (h : I a1 a2 a3 a4 a5 a6 a7 a8 a9 a10 a11 a12 a13) : ∃ n, W n a1 a2 a3 a4 a5 a6 a7 a8 a9 a10 a11 a12 a13 :=
  loop_m (σ := A1 × A2 × A3 × A4 × A5 × A6 × A7 × A8 × A9 × A10 × A11 × A12 × A13) (fun n s => W n s.1 s.2.1 s.2.2.1 s.2.2.2.1 s.2.2.2.2.1 s.2.2.2.2.2.1 s.2.2.2.2.2.2.1 s.2.2.2.2.2.2.2.1 s.2.2.2.2.2.2.2.2.1 s.2.2.2.2.2.2.2.2.2.1 s.2.2.2.2.2.2.2.2.2.2.1 s.2.2.2.2.2.2.2.2.2.2.2.1 s.2.2.2.2.2.2.2.2.2.2.2.2) (fun s => I s.1 s.2.1 s.2.2.1 s.2.2.2.1 s.2.2.2.2.1 s.2.2.2.2.2.1 s.2.2.2.2.2.2.1 s.2.2.2.2.2.2.2.1 s.2.2.2.2.2.2.2.2.1 s.2.2.2.2.2.2.2.2.2.1 s.2.2.2.2.2.2.2.2.2.2.1 s.2.2.2.2.2.2.2.2.2.2.2.1 s.2.2.2.2.2.2.2.2.2.2.2.2) (fun s => μ s.1 s.2.1 s.2.2.1 s.2.2.2.1 s.2.2.2.2.1 s.2.2.2.2.2.1 s.2.2.2.2.2.2.1 s.2.2.2.2.2.2.2.1 s.2.2.2.2.2.2.2.2.1 s.2.2.2.2.2.2.2.2.2.1 s.2.2.2.2.2.2.2.2.2.2.1 s.2.2.2.2.2.2.2.2.2.2.2.1 s.2.2.2.2.2.2.2.2.2.2.2.2) (fun n s hI hk => hs n s.1 s.2.1 s.2.2.1 s.2.2.2.1 s.2.2.2.2.1 s.2.2.2.2.2.1 s.2.2.2.2.2.2.1 s.2.2.2.2.2.2.2.1 s.2.2.2.2.2.2.2.2.1 s.2.2.2.2.2.2.2.2.2.1 s.2.2.2.2.2.2.2.2.2.2.1 s.2.2.2.2.2.2.2.2.2.2.2.1 s.2.2.2.2.2.2.2.2.2.2.2.2 hI (fun b1 b2 b3 b4 b5 b6 b7 b8 b9 b10 b11 b12 b13 h9 hm => hk (b1, b2, b3, b4, b5, b6, b7, b8, b9, b10, b11, b12, b13) h9 hm)) (a1, a2, a3, a4, a5, a6, a7, a8, a9, a10, a11, a12, a13) h
theorem lp14 {A1 A2 A3 A4 A5 A6 A7 A8 A9 A10 A11 A12 A13 A14 : Type} (W : Nat → A1 → A2 → A3 → A4 → A5 → A6 → A7 → A8 → A9 → A10 → A11 → A12 → A13 → A14 → Prop) (I : A1 → A2 → A3 → A4 → A5 → A6 → A7 → A8 → A9 → A10 → A11 → A12 → A13 → A14 → Prop) (μ : A1 → A2 → A3 → A4 → A5 → A6 → A7 → A8 → A9 → A10 → A11 → A12 → A13 → A14 → Nat) (hs : ∀ (n : Nat) (a1 : A1) (a2 : A2) (a3 : A3) (a4 : A4) (a5 : A5) (a6 : A6) (a7 : A7) (a8 : A8) (a9 : A9) (a10 : A10) (a11 : A11) (a12 : A12) (a13 : A13) (a14 : A14), I a1 a2 a3 a4 a5 a6 a7 a8 a9 a10 a11 a12 a13 a14 → (∀ (b1 : A1) (b2 : A2) (b3 : A3) (b4 : A4) (b5 : A5) (b6 : A6) (b7 : A7) (b8 : A8) (b9 : A9) (b10 : A10) (b11 : A11) (b12 : A12) (b13 : A13) (b14 : A14), I b1 b2 b3 b4 b5 b6 b7 b8 b9 b10 b11 b12 b13 b14 → μ b1 b2 b3 b4 b5 b6 b7 b8 b9 b10 b11 b12 b13 b14 < μ a1 a2 a3 a4 a5 a6 a7 a8 a9 a10 a11 a12 a13 a14 → W n b1 b2 b3 b4 b5 b6 b7 b8 b9 b10 b11 b12 b13 b14) → W (n + 1) a1 a2 a3 a4 a5 a6 a7 a8 a9 a10 a11 a12 a13 a14) (a1 : A1) (a2 : A2) (a3 : A3) (a4 : A4) (a5 : A5) (a6 : A6) (a7 : A7) (a8 : A8) (a9 : A9) (a10 : A10) (a11 : A11) (a12 : A12) (a13 : A13) (a14 : A14) (h : I a1 a2 a3 a4 a5 a6 a7 a8 a9 a10 a11 a12 a13 a14) : ∃ n, W n a1 a2 a3 a4 a5 a6 a7 a8 a9 a10 a11 a12 a13 a14 :=
  loop_m (σ := A1 × A2 × A3 × A4 × A5 × A6 × A7 × A8 × A9 × A10 × A11 × A12 × A13 × A14) (fun n s => W n s.1 s.2.1 s.2.2.1 s.2.2.2.1 s.2.2.2.2.1 s.2.2.2.2.2.1 s.2.2.2.2.2.2.1 s.2.2.2.2.2.2.2.1 s.2.2.2.2.2.2.2.2.1 s.2.2.2.2.2.2.2.2.2.1 s.2.2.2.2.2.2.2.2.2.2.1 s.2.2.2.2.2.2.2.2.2.2.2.1 s.2.2.2.2.2.2.2.2.2.2.2.2.1 s.2.2.2.2.2.2.2.2.2.2.2.2.2) (fun s => I s.1 s.2.1 s.2.2.1 s.2.2.2.1 s.2.2.2.2.1 s.2.2.2.2.2.1 s.2.2.2.2.2.2.1 s.2.2.2.2.2.2.2.1 s.2.2.2.2.2.2.2.2.1 s.2.2.2.2.2.2.2.2.2.1 s.2.2.2.2.2.2.2.2.2.2.1 s.2.2.2.2.2.2.2.2.2.2.2.1 s.2.2.2.2.2.2.2.2.2.2.2.2.1 s.2.2.2.2.2.2.2.2.2.2.2.2.2) (fun s => μ s.1 s.2.1 s.2.2.1 s.2.2.2.1 s.2.2.2.2.1 s.2.2.2.2.2.1 s.2.2.2.2.2.2.1 s.2.2.2.2.2.2.2.1 s.2.2.2.2.2.2.2.2.1 s.2.2.2.2.2.2.2.2.2.1 s.2.2.2.2.2.2.2.2.2.2.1 s.2.2.2.2.2.2.2.2.2.2.2.1 s.2.2.2.2.2.2.2.2.2.2.2.2.1 s.2.2.2.2.2.2.2.2.2.2.2.2.2) (fun n s hI hk => hs n s.1 s.2.1 s.2.2.1 s.2.2.2.1 s.2.2.2.2.1 s.2.2.2.2.2.1 s.2.2.2.2.2.2.1 s.2.2.2.2.2.2.2.1 s.2.2.2.2.2.2.2.2.1 s.2.2.2.2.2.2.2.2.2.1 s.2.2.2.2.2.2.2.2.2.2.1 s.2.2.2.2.2.2.2.2.2.2.2.1 s.2.2.2.2.2.2.2.2.2.2.2.2.1 s.2.2.2.2.2.2.2.2.2.2.2.2.2 hI (fun b1 b2 b3 b4 b5 b6 b7 b8 b9 b10 b11 b12 b13 b14 h9 hm => hk (b1, b2, b3, b4, b5, b6, b7, b8, b9, b10, b11, b12, b13, b14) h9 hm)) (a1, a2, a3, a4, a5, a6, a7, a8, a9, a10, a11, a12, a13, a14) h
theorem lp15 {A1 A2 A3 A4 A5 A6 A7 A8 A9 A10 A11 A12 A13 A14 A15 : Type} (W : Nat → A1 → A2 → A3 → A4 → A5 → A6 → A7 → A8 → A9 → A10 → A11 → A12 → A13 → A14 → A15 → Prop) (I : A1 → A2 → A3 → A4 → A5 → A6 → A7 → A8 → A9 → A10 → A11 → A12 → A13 → A14 → A15 → Prop) (μ : A1 → A2 → A3 → A4 → A5 → A6 → A7 → A8 → A9 → A10 → A11 → A12 → A13 → A14 → A15 → Nat) (hs : ∀ (n : Nat) (a1 : A1) (a2 : A2) (a3 : A3) (a4 : A4) (a5 : A5) (a6 : A6) (a7 : A7) (a8 : A8) (a9 : A9) (a10 : A10) (a11 : A11) (a12 : A12) (a13 : A13) (a14 : A14) (a15 : A15), I a1 a2 a3 a4 a5 a6 a7 a8 a9 a10 a11 a12 a13 a14 a15 → (∀ (b1 : A1) (b2 : A2) (b3 : A3) (b4 : A4) (b5 : A5) (b6 : A6) (b7 : A7) (b8 : A8) (b9 : A9) (b10 : A10) (b11 : A11) (b12 : A12) (b13 : A13) (b14 : A14) (b15 : A15), I b1 b2 b3 b4 b5 b6 b7 b8 b9 b10 b11 b12 b13 b14 b15 → μ b1 b2 b3 b4 b5 b6 b7 b8 b9 b10 b11 b12 b13 b14 b15 < μ a1 a2 a3 a4 a5 a6 a7 a8 a9 a10 a11 a12 a13 a14 a15 → W n b1 b2 b3 b4 b5 b6 b7 b8 b9 b10 b11 b12 b13 b14 b15) → W (n + 1) a1 a2 a3 a4 a5 a6 a7 a8 a9 a10 a11 a12 a13 a14 a15) (a1 : A1) (a2 : A2) (a3 : A3) (a4 : A4) (a5 : A5) (a6 : A6) (a7 : A7) (a8 : A8) (a9 : A9) (a10 : A10) (a11 : A11) (a12 : A12) (a13 : A13) (a14 : A14) (a15 : A15) (h : I a1 a2 a3 a4 a5 a6 a7 a8 a9 a10 a11 a12 a13 a14 a15) : ∃ n, W n a1 a2 a3 a4 a5 a6 a7 a8 a9 a10 a11 a12 a13 a14 a15 :=
  loop_m (σ := A1 × A2 × A3 × A4 × A5 × A6 × A7 × A8 × A9 × A10 × A11 × A12 × A13 × A14 × A15) (fun n s => W n s.1 s.2.1 s.2.2.1 s.2.2.2.1 s.2.2.2.2.1 s.2.2.2.2.2.1 s.2.2.2.2.2.2.1 s.2.2.2.2.2.2.2.1 s.2.2.2.2.2.2.2.2.1 s.2.2.2.2.2.2.2.2.2.1 s.2.2.2.2.2.2.2.2.2.2.1 s.2.2.2.2.2.2.2.2.2.2.2.1 s.2.2.2.2.2.2.2.2.2.2.2.2.1 s.2.2.2.2.2.2.2.2.2.2.2.2.2.1 s.2.2.2.2.2.2.2.2.2.2.2.2.2.2) (fun s => I s.1 s.2.1 s.2.2.1 s.2.2.2.1 s.2.2.2.2.1 s.2.2.2.2.2.1 s.2.2.2.2.2.2.1 s.2.2.2.2.2.2.2.1 s.2.2.2.2.2.2.2.2.1 s.2.2.2.2.2.2.2.2.2.1 s.2.2.2.2.2.2.2.2.2.2.1 s.2.2.2.2.2.2.2.2.2.2.2.1 s.2.2.2.2.2.2.2.2.2.2.2.2.1 s.2.2.2.2.2.2.2.2.2.2.2.2.2.1 s.2.2.2.2.2.2.2.2.2.2.2.2.2.2) (fun s => μ s.1 s.2.1 s.2.2.1 s.2.2.2.1 s.2.2.2.2.1 s.2.2.2.2.2.1 s.2.2.2.2.2.2.1 s.2.2.2.2.2.2.2.1 s.2.2.2.2.2.2.2.2.1 s.2.2.2.2.2.2.2.2.2.1 s.2.2.2.2.2.2.2.2.2.2.1 s.2.2.2.2.2.2.2.2.2.2.2.1 s.2.2.2.2.2.2.2.2.2.2.2.2.1 s.2.2.2.2.2.2.2.2.2.2.2.2.2.1 s.2.2.2.2.2.2.2.2.2.2.2.2.2.2) (fun n s hI hk => hs n s.1 s.2.1 s.2.2.1 s.2.2.2.1 s.2.2.2.2.1 s.2.2.2.2.2.1 s.2.2.2.2.2.2.1 s.2.2.2.2.2.2.2.1 s.2.2.2.2.2.2.2.2.1 s.2.2.2.2.2.2.2.2.2.1 s.2.2.2.2.2.2.2.2.2.2.1 s.2.2.2.2.2.2.2.2.2.2.2.1 s.2.2.2.2.2.2.2.2.2.2.2.2.1 s.2.2.2.2.2.2.2.2.2.2.2.2.2.1 s.2.2.2.2.2.2.2.2.2.2.2.2.2.2 hI (fun b1 b2 b3 b4 b5 b6 b7 b8 b9 b10 b11 b12 b13 b14 b15 h9 hm => hk (b1, b2, b3, b4, b5, b6, b7, b8, b9, b10, b11, b12, b13, b14, b15) h9 hm)) (a1, a2, a3, a4, a5, a6, a7, a8, a9, a10, a11, a12, a13, a14, a15) h
theorem lp16 {A1 A2 A3 A4 A5 A6 A7 A8 A9 A10 A11 A12 A13 A14 A15 A16 : Type} (W : Nat → A1 → A2 → A3 → A4 → A5 → A6 → A7 → A8 → A9 → A10 → A11 → A12 → A13 → A14 → A15 → A16 → Prop) (I : A1 → A2 → A3 → A4 → A5 → A6 → A7 → A8 → A9 → A10 → A11 → A12 → A13 → A14 → A15 → A16 → Prop) (μ : A1 → A2 → A3 → A4 → A5 → A6 → A7 → A8 → A9 → A10 → A11 → A12 → A13 → A14 → A15 → A16 → Nat) (hs : ∀ (n : Nat) (a1 : A1) (a2 : A2) (a3 : A3) (a4 : A4) (a5 : A5) (a6 : A6) (a7 : A7) (a8 : A8) (a9 : A9) (a10 : A10) (a11 : A11) (a12 : A12) (a13 : A13) (a14 : A14) (a15 : A15) (a16 : A16), I a1 a2 a3 a4 a5 a6 a7 a8 a9 a10 a11 a12 a13 a14 a15 a16 → (∀ (b1 : A1) (b2 : A2) (b3 : A3) (b4 : A4) (b5 : A5) (b6 : A6) (b7 : A7) (b8 : A8) (b9 : A9) (b10 : A10) (b11 : A11) (b12 : A12) (b13 : A13) (b14 : A14) (b15 : A15) (b16 : A16), I b1 b2 b3 b4 b5 b6 b7 b8 b9 b10 b11 b12 b13 b14 b15 b16 → μ b1 b2 b3 b4 b5 b6 b7 b8 b9 b10 b11 b12 b13 b14 b15 b16 < μ a1 a2 a3 a4 a5 a6 a7 a8 a9 a10 a11 a12 a13 a14 a15 a16 → W n b1 b2 b3 b4 b5 b6 b7 b8 b9 b10 b11 b12 b13 b14 b15 b16) → W (n + 1) a1 a2 a3 a4 a5 a6 a7 a8 a9 a10 a11 a12 a13 a14 a15 a16) (a1 : A1) (a2 : A2) (a3 : A3) (a4 : A4) (a5 : A5) (a6 : A6) (a7 : A7) (a8 : A8) (a9 : A9) (a10 : A10) (a11 : A11) (a12 : A12) (a13 : A13) (a14 : A14) (a15 : A15) (a16 : A16) (h : I a1 a2 a3 a4 a5 a6 a7 a8 a9 a10 a11 a12 a13 a14 a15 a16) : ∃ n, W n a1 a2 a3 a4 a5 a6 a7 a8 a9 a10 a11 a12 a13 a14 a15 a16 :=
  loop_m (σ := A1 × A2 × A3 × A4 × A5 × A6 × A7 × A8 × A9 × A10 × A11 × A12 × A13 × A14 × A15 × A16) (fun n s => W n s.1 s.2.1 s.2.2.1 s.2.2.2.1 s.2.2.2.2.1 s.2.2.2.2.2.1 s.2.2.2.2.2.2.1 s.2.2.2.2.2.2.2.1 s.2.2.2.2.2.2.2.2.1 s.2.2.2.2.2.2.2.2.2.1 s.2.2.2.2.2.2.2.2.2.2.1 s.2.2.2.2.2.2.2.2.2.2.2.1 s.2.2.2.2.2.2.2.2.2.2.2.2.1 s.2.2.2.2.2.2.2.2.2.2.2.2.2.1 s.2.2.2.2.2.2.2.2.2.2.2.2.2.2.1 s.2.2.2.2.2.2.2.2.2.2.2.2.2.2.2) (fun s => I s.1 s.2.1 s.2.2.1 s.2.2.2.1 s.2.2.2.2.1 s.2.2.2.2.2.1 s.2.2.2.2.2.2.1 s.2.2.2.2.2.2.2.1 s.2.2.2.2.2.2.2.2.1 s.2.2.2.2.2.2.2.2.2.1 s.2.2.2.2.2.2.2.2.2.2.1 s.2.2.2.2.2.2.2.2.2.2.2.1 s.2.2.2.2.2.2.2.2.2.2.2.2.1 s.2.2.2.2.2.2.2.2.2.2.2.2.2.1 s.2.2.2.2.2.2.2.2.2.2.2.2.2.2.1 s.2.2.2.2.2.2.2.2.2.2.2.2.2.2.2) (fun s => μ s.1 s.2.1 s.2.2.1 s.2.2.2.1 s.2.2.2.2.1 s.2.2.2.2.2.1 s.2.2.2.2.2.2.1 s.2.2.2.2.2.2.2.1 s.2.2.2.2.2.2.2.2.1 s.2.2.2.2.2.2.2.2.2.1 s.2.2.2.2.2.2.2.2.2.2.1 s.2.2.2.2.2.2.2.2.2.2.2.1 s.2.2.2.2.2.2.2.2.2.2.2.2.1 s.2.2.2.2.2.2.2.2.2.2.2.2.2.1 s.2.2.2.2.2.2.2.2.2.2.2.2.2.2.1 s.2.2.2.2.2.2.2.2.2.2.2.2.2.2.2) (fun n s hI hk => hs n s.1 s.2.1 s.2.2.1 s.2.2.2.1 s.2.2.2.2.1 s.2.2.2.2.2.1 s.2.2.2.2.2.2.1 s.2.2.2.2.2.2.2.1 s.2.2.2.2.2.2.2.2.1 s.2.2.2.2.2.2.2.2.2.1 s.2.2.2.2.2.2.2.2.2.2.1 s.2.2.2.2.2.2.2.2.2.2.2.1 s.2.2.2.2.2.2.2.2.2.2.2.2.1 s.2.2.2.2.2.2.2.2.2.2.2.2.2.1 s.2.2.2.2.2.2.2.2.2.2.2.2.2.2.1 s.2.2.2.2.2.2.2.2.2.2.2.2.2.2.2 hI (fun b1 b2 b3 b4 b5 b6 b7 b8 b9 b10 b11 b12 b13 b14 b15 b16 h9 hm => hk (b1, b2, b3, b4, b5, b6, b7, b8, b9, b10, b11, b12, b13, b14, b15, b16) h9 hm)) (a1, a2, a3, a4, a5, a6, a7, a8, a9, a10, a11, a12, a13, a14, a15, a16) h
theorem pk_least (P : Nat → Prop) (h : ∃ k, P k) : ∃ k, P k ∧ ∀ j, j < k → ¬ P j := by
  obtain ⟨k, hk⟩ := h
  induction k using Nat.strongRecOn with
  | ind k ih =>
    by_cases e : ∃ j, j < k ∧ P j
    · obtain ⟨j, hj, pj⟩ := e
      exact ih j hj pj
    · exact ⟨k, hk, fun j hj pj => e ⟨j, hj, pj⟩⟩
theorem rp1 {ρ A1 : Type} (W : Nat → (ρ → Prop) → A1 → Prop) (ok : A1 → Prop) (μ : A1 → Nat) (val : A1 → ρ)
    (hs : ∀ (d : Nat) (post : ρ → Prop) (a1 : A1), ok a1 → post (val a1) → (∀ (post' : ρ → Prop) (b1 : A1), ok b1 → μ b1 < μ a1 → post' (val b1) → W d post' b1) → W (d + 1) post a1) :
    ∀ (d : Nat) (post : ρ → Prop) (a1 : A1), ok a1 → μ a1 < d → post (val a1) → W d post a1 := by
  intro d
  induction d with
  | zero => intro post a1 _ h; omega
  | succ d ih =>
    intro post a1 ho hm hp
    exact hs d post a1 ho hp (fun post' b1 ho' hm' hp' => ih post' b1 ho' (by omega) hp')
theorem rp2 {ρ A1 A2 : Type} (W : Nat → (ρ → Prop) → A1 → A2 → Prop) (ok : A1 → A2 → Prop) (μ : A1 → A2 → Nat) (val : A1 → A2 → ρ)
    (hs : ∀ (d : Nat) (post : ρ → Prop) (a1 : A1) (a2 : A2), ok a1 a2 → post (val a1 a2) → (∀ (post' : ρ → Prop) (b1 : A1) (b2 : A2), ok b1 b2 → μ b1 b2 < μ a1 a2 → post' (val b1 b2) → W d post' b1 b2) → W (d + 1) post a1 a2) :
    ∀ (d : Nat) (post : ρ → Prop) (a1 : A1) (a2 : A2), ok a1 a2 → μ a1 a2 < d → post (val a1 a2) → W d post a1 a2 := by
  intro d
  induction d with
  | zero => intro post a1 a2 _ h; omega
  | succ d ih =>
    intro post a1 a2 ho hm hp
    exact hs d post a1 a2 ho hp (fun post' b1 b2 ho' hm' hp' => ih post' b1 b2 ho' (by omega) hp')
theorem rp3 {ρ A1 A2 A3 : Type} (W : Nat → (ρ → Prop) → A1 → A2 → A3 → Prop) (ok : A1 → A2 → A3 → Prop) (μ : A1 → A2 → A3 → Nat) (val : A1 → A2 → A3 → ρ)
    (hs : ∀ (d : Nat) (post : ρ → Prop) (a1 : A1) (a2 : A2) (a3 : A3), ok a1 a2 a3 → post (val a1 a2 a3) → (∀ (post' : ρ → Prop) (b1 : A1) (b2 : A2) (b3 : A3), ok b1 b2 b3 → μ b1 b2 b3 < μ a1 a2 a3 → post' (val b1 b2 b3) → W d post' b1 b2 b3) → W (d + 1) post a1 a2 a3) :
    ∀ (d : Nat) (post : ρ → Prop) (a1 : A1) (a2 : A2) (a3 : A3), ok a1 a2 a3 → μ a1 a2 a3 < d → post (val a1 a2 a3) → W d post a1 a2 a3 := by
  intro d
  induction d with
  | zero => intro post a1 a2 a3 _ h; omega
  | succ d ih =>
    intro post a1 a2 a3 ho hm hp
    exact hs d post a1 a2 a3 ho hp (fun post' b1 b2 b3 ho' hm' hp' => ih post' b1 b2 b3 ho' (by omega) hp')
theorem rp4 {ρ A1 A2 A3 A4 : Type} (W : Nat → (ρ → Prop) → A1 → A2 → A3 → A4 → Prop) (ok : A1 → A2 → A3 → A4 → Prop) (μ : A1 → A2 → A3 → A4 → Nat) (val : A1 → A2 → A3 → A4 → ρ)
    (hs : ∀ (d : Nat) (post : ρ → Prop) (a1 : A1) (a2 : A2) (a3 : A3) (a4 : A4), ok a1 a2 a3 a4 → post (val a1 a2 a3 a4) → (∀ (post' : ρ → Prop) (b1 : A1) (b2 : A2) (b3 : A3) (b4 : A4), ok b1 b2 b3 b4 → μ b1 b2 b3 b4 < μ a1 a2 a3 a4 → post' (val b1 b2 b3 b4) → W d post' b1 b2 b3 b4) → W (d + 1) post a1 a2 a3 a4) :
    ∀ (d : Nat) (post : ρ → Prop) (a1 : A1) (a2 : A2) (a3 : A3) (a4 : A4), ok a1 a2 a3 a4 → μ a1 a2 a3 a4 < d → post (val a1 a2 a3 a4) → W d post a1 a2 a3 a4 := by
  intro d
  induction d with
  | zero => intro post a1 a2 a3 a4 _ h; omega
  | succ d ih =>
    intro post a1 a2 a3 a4 ho hm hp
    exact hs d post a1 a2 a3 a4 ho hp (fun post' b1 b2 b3 b4 ho' hm' hp' => ih post' b1 b2 b3 b4 ho' (by omega) hp')
theorem rp5 {ρ A1 A2 A3 A4 A5 : Type} (W : Nat → (ρ → Prop) → A1 → A2 → A3 → A4 → A5 → Prop) (ok : A1 → A2 → A3 → A4 → A5 → Prop) (μ : A1 → A2 → A3 → A4 → A5 → Nat) (val : A1 → A2 → A3 → A4 → A5 → ρ)
    (hs : ∀ (d : Nat) (post : ρ → Prop) (a1 : A1) (a2 : A2) (a3 : A3) (a4 : A4) (a5 : A5), ok a1 a2 a3 a4 a5 → post (val a1 a2 a3 a4 a5) → (∀ (post' : ρ → Prop) (b1 : A1) (b2 : A2) (b3 : A3) (b4 : A4) (b5 : A5), ok b1 b2 b3 b4 b5 → μ b1 b2 b3 b4 b5 < μ a1 a2 a3 a4 a5 → post' (val b1 b2 b3 b4 b5) → W d post' b1 b2 b3 b4 b5) → W (d + 1) post a1 a2 a3 a4 a5) :
    ∀ (d : Nat) (post : ρ → Prop) (a1 : A1) (a2 : A2) (a3 : A3) (a4 : A4) (a5 : A5), ok a1 a2 a3 a4 a5 → μ a1 a2 a3 a4 a5 < d → post (val a1 a2 a3 a4 a5) → W d post a1 a2 a3 a4 a5 := by
  intro d
  induction d with
  | zero => intro post a1 a2 a3 a4 a5 _ h; omega
  | succ d ih =>
    intro post a1 a2 a3 a4 a5 ho hm hp
    exact hs d post a1 a2 a3 a4 a5 ho hp (fun post' b1 b2 b3 b4 b5 ho' hm' hp' => ih post' b1 b2 b3 b4 b5 ho' (by omega) hp')
theorem rp6 {ρ A1 A2 A3 A4 A5 A6 : Type} (W : Nat → (ρ → Prop) → A1 → A2 → A3 → A4 → A5 → A6 → Prop) (ok : A1 → A2 → A3 → A4 → A5 → A6 → Prop) (μ : A1 → A2 → A3 → A4 → A5 → A6 → Nat) (val : A1 → A2 → A3 → A4 → A5 → A6 → ρ)
    (hs : ∀ (d : Nat) (post : ρ → Prop) (a1 : A1) (a2 : A2) (a3 : A3) (a4 : A4) (a5 : A5) (a6 : A6), ok a1 a2 a3 a4 a5 a6 → post (val a1 a2 a3 a4 a5 a6) → (∀ (post' : ρ → Prop) (b1 : A1) (b2 : A2) (b3 : A3) (b4 : A4) (b5 : A5) (b6 : A6), ok b1 b2 b3 b4 b5 b6 → μ b1 b2 b3 b4 b5 b6 < μ a1 a2 a3 a4 a5 a6 → post' (val b1 b2 b3 b4 b5 b6) → W d post' b1 b2 b3 b4 b5 b6) → W (d + 1) post a1 a2 a3 a4 a5 a6) :
    ∀ (d : Nat) (post : ρ → Prop) (a1 : A1) (a2 : A2) (a3 : A3) (a4 : A4) (a5 : A5) (a6 : A6), ok a1 a2 a3 a4 a5 a6 → μ a1 a2 a3 a4 a5 a6 < d → post (val a1 a2 a3 a4 a5 a6) → W d post a1 a2 a3 a4 a5 a6 := by
  intro d
  induction d with
  | zero => intro post a1 a2 a3 a4 a5 a6 _ h; omega
  | succ d ih =>
    intro post a1 a2 a3 a4 a5 a6 ho hm hp
    exact hs d post a1 a2 a3 a4 a5 a6 ho hp (fun post' b1 b2 b3 b4 b5 b6 ho' hm' hp' => ih post' b1 b2 b3 b4 b5 b6 ho' (by omega) hp')
theorem rec_p {σ ρ : Type} (W : Nat → (ρ → Prop) → σ → Prop) (ok : σ → Prop) (μ : σ → Nat) (val : σ → ρ)
    (hs : ∀ d s post, ok s → post (val s) → (∀ s' post', ok s' → μ s' < μ s → post' (val s') → W d post' s') → W (d + 1) post s) :
    ∀ d s post, ok s → μ s < d → post (val s) → W d post s := by
  intro d
  induction d with
  | zero => intro s post _ h; omega
  | succ d ih =>
    intro s post ho hm hp
    exact hs d s post ho hp (fun s' post' ho' hm' hp' => ih s' post' ho' (by omega) hp')
theorem rec_q {σ ρ : Type} (W : Nat → (ρ → Prop) → σ → Prop) (ok : σ → Prop) (μ : σ → Nat) (Q : σ → ρ → Prop)
    (hs : ∀ d s post, ok s → (∀ r, Q s r → post r) → (∀ s' post', ok s' → μ s' < μ s → (∀ r, Q s' r → post' r) → W d post' s') → W (d + 1) post s) :
    ∀ d s post, ok s → μ s < d → (∀ r, Q s r → post r) → W d post s := by
  intro d
  induction d with
  | zero => intro s post _ h; omega
  | succ d ih =>
    intro s post ho hm hp
    exact hs d s post ho hp (fun s' post' ho' hm' hp' => ih s' post' ho' (by omega) hp')
def bx_sum (f : Nat → Int32) : Nat → Int32
  | 0 => 0
  | n + 1 => bx_sum f n + f n
theorem ek_u {A : Prop} {B : Nat → Prop} {k N : Nat} (hk : k < N) (h : B k) : (some k = none → A) ∧ (∀ y : Nat, some k = some y → (y < N ∧ B y)) :=
  ⟨fun z => absurd z (Option.some_ne_none k), fun _ e => (by cases e; exact ⟨hk, h⟩)⟩
theorem ek_nu {A : Prop} {B : Nat → Prop} (h : A) : ((none : Option Nat) = none → A) ∧ (∀ y : Nat, (none : Option Nat) = some y → B y) :=
  ⟨fun _ => h, fun _ e => (by cases e)⟩
theorem ek_if {c d A B : Prop} (e : c ↔ d) (f : d → A) (g : ¬ d → B) : (c → A) ∧ (¬ c → B) :=
  ⟨fun z => f (e.mp z), fun z => g (fun y => z (e.mpr y))⟩
theorem ek_v {α : Sort _} {P : α → Prop} {a b : α} (e : a = b) (h : P b) : P a := e ▸ h
theorem co_some {x : Option Nat} {A : Prop} {B : Nat → Prop} (i : Nat) (h : B i) (hx : x = some i := by rfl) : (x = none → A) ∧ (∀ y : Nat, x = some y → B y) := by
  subst hx
  exact ⟨fun e => (nomatch e), fun y e => Option.some.inj e ▸ h⟩
theorem co_none {x : Option Nat} {A : Prop} {B : Nat → Prop} (h : A) (hx : x = none := by rfl) : (x = none → A) ∧ (∀ y : Nat, x = some y → B y) := by
  subst hx
  exact ⟨fun _ => h, fun y e => (nomatch e)⟩
theorem co_any {x : Option Nat} {A : Prop} {B : Nat → Prop} (hn : x = none → A) (hs : ∀ i : Nat, x = some i → B i) : (x = none → A) ∧ (∀ y : Nat, x = some y → B y) := ⟨hn, hs⟩
theorem co_2 {P : Nat → Prop} (h0 : P 0) (h1 : P 1) {i : Nat} (hi : i < 2) : P i :=
  match i, hi with
  | 0, _ => h0
  | 1, _ => h1
theorem co_3 {P : Nat → Prop} (h0 : P 0) (h1 : P 1) (h2 : P 2) {i : Nat} (hi : i < 3) : P i :=
  match i, hi with
  | 0, _ => h0
  | 1, _ => h1
  | 2, _ => h2
theorem co_4 {P : Nat → Prop} (h0 : P 0) (h1 : P 1) (h2 : P 2) (h3 : P 3) {i : Nat} (hi : i < 4) : P i :=
  match i, hi with
  | 0, _ => h0
  | 1, _ => h1
  | 2, _ => h2
  | 3, _ => h3
theorem co_dec {N : Nat} {P : Nat → Prop} [DecidablePred P] (h : (List.range N).all (fun i => decide (P i)) = true) {i : Nat} (hi : i < N) : P i := by
  have := List.all_eq_true.mp h i (List.mem_range.mpr hi)
  exact of_decide_eq_true this
theorem co_tab {α : Type} {l : List α} {d : α} {P : α → Prop} (h : ∀ a, a ∈ l → P a) {i : Nat} (hi : i < l.length) : P (l.getD i d) := by
  rw [List.getD_eq_getElem?_getD, List.getElem?_eq_getElem hi]
  exact h _ (List.getElem_mem hi)
theorem pk_mu {x : Int32} {L : Nat} (h0 : ¬ x < 0) (h : ¬ nI L ≤ x) (hL : L < 2 ^ 31) : ∃ j : Nat, j < L ∧ x = nI j ∧ x + 1 = nI (j + 1) ∧ x.toNatClampNeg = j ∧ L - (x + 1).toNatClampNeg < L - x.toNatClampNeg := by
  obtain ⟨j, hj, rfl⟩ := nI_of h0
  have hl : j < L := Nat.not_le.mp fun q => h (nI_le q hj)
  refine ⟨j, hl, rfl, nI_1 j, nI_clamp hj, ?_⟩
  rw [nI_1, nI_clamp (by omega), nI_clamp hj]
  omega
theorem op_s {α : Type} {r : Option α} {A : Prop} {B : α → Prop} {y : α} (h : r = some y) (b : B y) : (r = none → A) ∧ ∀ z, r = some z → B z :=
  ⟨fun e => (by rw [h] at e; cases e), fun z e => (by rw [h] at e; cases e; exact b)⟩
def l_holds {α : Type} (a : Nat → Option Nat) (LP : List Nat) (p : Nat → α) (c : Nat) (b : Nat → α) : Prop :=
  ∀ j, j < c → ∃ y, a j = some y ∧ y ∈ LP ∧ p y = b j
theorem l_holds_0 {α : Type} {a : Nat → Option Nat} {LP : List Nat} {p b : Nat → α} : l_holds a LP p 0 b := fun j h => absurd h (Nat.not_lt_zero j)
theorem l_in_new (LP : List Nat) (q : Nat) : q ∈ LP ++ [q] := List.mem_append.mpr (Or.inr (List.mem_singleton.mpr rfl))
def l_sum (b : Nat → Int32) : Nat → Int32
  | 0 => 0
  | k + 1 => l_sum b k + b k
theorem sb_shr0 (x : Int32) : x >>> ((0 : Int32) &&& 31) = x := by
  rw [show ((0 : Int32) &&& 31) = 0 by decide]
  simp
theorem sb_shl0 (x : Int32) : x <<< ((0 : Int32) &&& 31) = x := by
  rw [show ((0 : Int32) &&& 31) = 0 by decide]
  simp
theorem sb_cl0 : (0 : Int32).toNatClampNeg = 0 := by decide
theorem sb_m1 {p : Nat} (h : 0 < p) : nI p + (-1) = nI (p - 1) := by
  obtain ⟨q, rfl⟩ : ∃ q, p = q + 1 := ⟨p - 1, by omega⟩
  exact pk_m1 q
def sb_b (c : Nat) : Int32 := (nI c).toInt8.toInt32
theorem sb_byte : ∀ c, c < 256 → sb_b c &&& 255 = nI c ∧ ((nI c).toUInt32 % 65536).toInt32 = nI c ∧ nI c ≤ 255 := by decide +kernel
def sb_Fit (a : Nat → Int32) : Prop := ∀ j, fits .byte (.int (a j)) = true
def sb_Lat (t : Nat → Nat) (n : Nat) (a : Nat → Int32) : Prop := ∀ j, j < n → t j < 256 ∧ a j = sb_b (t j)
theorem sb_fitB (c : Nat) : fits .byte (.int (sb_b c)) = true := pk_fb _
theorem sb_fit0 : sb_Fit (fun _ => 0) := fun _ => by
  show fits .byte (.int 0) = true
  decide
theorem sb_fitU {a : Nat → Int32} {k : Nat} {x : Int32} (h : sb_Fit a) (hx : fits .byte (.int x) = true) : sb_Fit (upd a k x) := by
  intro j
  by_cases e : j = k
  · subst e
    rw [pk_us]
    exact hx
  · rw [pk_un e]
    exact h j
def sb_cat (t : Nat → Nat) (n : Nat) (s : Nat → Nat) : Nat → Nat := fun j => if j < n then t j else s (j - n)
theorem sb_cat_lo {t s : Nat → Nat} {n j : Nat} (h : j < n) : sb_cat t n s j = t j := if_pos h
theorem sb_cat_hi {t s : Nat → Nat} {n j : Nat} : sb_cat t n s (n + j) = s j := by
  show (if n + j < n then t (n + j) else s (n + j - n)) = s j
  rw [if_neg (by omega), Nat.add_sub_cancel_left]
theorem sb_latPut {t s : Nat → Nat} {n w : Nat} {a a' : Nat → Int32} (h : sb_Lat t n a) (hk : ∀ j, j < n → a' j = a j) (hs : ∀ i, i < w → s i < 256 ∧ a' (n + i) = sb_b (s i)) : sb_Lat (sb_cat t n s) (n + w) a' := by
  intro j hj
  by_cases e : j < n
  · rw [sb_cat_lo e, hk j e]
    exact h j e
  · obtain ⟨i, rfl⟩ : ∃ i, j = n + i := ⟨j - n, by omega⟩
    rw [sb_cat_hi]
    exact hs i (by omega)
theorem sb_latKeep {t : Nat → Nat} {n : Nat} {a a' : Nat → Int32} (h : sb_Lat t n a) (hk : ∀ j, j < n → a' j = a j) : sb_Lat t n a' := fun j hj => by
  rw [hk j hj]
  exact h j hj
def sb_cap (q m : Nat) : Nat := if q ≤ m then m else if 2 * m + 2 < q then q else 2 * m + 2
def sb_Room (q m mc ms : Nat) : Prop := q ≤ m ∨ (1 ≤ mc ∧ sb_cap q m ≤ ms ∧ sb_cap q m ≤ 65536)
theorem sb_cap_ge (q m : Nat) : q ≤ sb_cap q m := by
  unfold sb_cap
  split
  · omega
  · split <;> omega
theorem sb_cap_gem (q m : Nat) : m ≤ sb_cap q m := by
  unfold sb_cap
  split
  · omega
  · split <;> omega
theorem sb_cap_le {q m mc ms : Nat} (hm : m ≤ 65536) (hr : sb_Room q m mc ms) : sb_cap q m ≤ 65536 := by
  rcases hr with h | h
  · rw [sb_cap, if_pos h]
    exact hm
  · exact h.2.2
theorem sb_at {P : Int32 → Prop} {x y : Int32} (e : x = y) (h : P y) : P x := e ▸ h
def sb_dg (w : Nat) : Nat := if w < 10 then 1 else if w < 100 then 2 else if w < 1000 then 3 else if w < 10000 then 4 else if w < 100000 then 5 else if w < 1000000 then 6 else if w < 10000000 then 7 else if w < 100000000 then 8 else if w < 1000000000 then 9 else 10
def sb_dec (v : Nat) : Nat → Nat := fun i => 48 + v / 10 ^ (sb_dg v - 1 - i) % 10
theorem sb_dg_in (w : Nat) : 1 ≤ sb_dg w ∧ sb_dg w ≤ 10 := by
  unfold sb_dg
  constructor <;> (repeat' split) <;> omega
theorem sb_dg100 {w : Nat} (h : 100 ≤ w) (hw : w < 2 ^ 31) : sb_dg w = sb_dg (w / 100) + 2 := by
  rw [sb_dg, sb_dg, if_neg (show ¬ w < 10 by omega), if_neg (show ¬ w < 100 by omega)]
  by_cases h3 : w < 1000
  · rw [if_pos h3, if_pos (show w / 100 < 10 by omega)]
  rw [if_neg h3, if_neg (show ¬ w / 100 < 10 by omega)]
  by_cases h4 : w < 10000
  · rw [if_pos h4, if_pos (show w / 100 < 100 by omega)]
  rw [if_neg h4, if_neg (show ¬ w / 100 < 100 by omega)]
  by_cases h5 : w < 100000
  · rw [if_pos h5, if_pos (show w / 100 < 1000 by omega)]
  rw [if_neg h5, if_neg (show ¬ w / 100 < 1000 by omega)]
  by_cases h6 : w < 1000000
  · rw [if_pos h6, if_pos (show w / 100 < 10000 by omega)]
  rw [if_neg h6, if_neg (show ¬ w / 100 < 10000 by omega)]
  by_cases h7 : w < 10000000
  · rw [if_pos h7, if_pos (show w / 100 < 100000 by omega)]
  rw [if_neg h7, if_neg (show ¬ w / 100 < 100000 by omega)]
  by_cases h8 : w < 100000000
  · rw [if_pos h8, if_pos (show w / 100 < 1000000 by omega)]
  rw [if_neg h8, if_neg (show ¬ w / 100 < 1000000 by omega)]
  by_cases h9 : w < 1000000000
  · rw [if_pos h9, if_pos (show w / 100 < 10000000 by omega)]
  rw [if_neg h9, if_neg (show ¬ w / 100 < 10000000 by omega)]
  rw [if_pos (show w / 100 < 100000000 by omega)]
theorem sb_negT {w : Nat} (h : w < 2 ^ 31) : (-nI w).toInt = -(w : Int) := by
  rw [Int32.toInt_neg, nI_toInt h]
  exact Int.bmod_eq_of_le (by omega) (by omega)
theorem sb_nle {a b : Nat} (ha : a < 2 ^ 31) (hb : b < 2 ^ 31) : -nI a ≤ -nI b ↔ b ≤ a := by
  rw [Int32.le_iff_toInt_le, sb_negT ha, sb_negT hb]
  omega
theorem sb_nlt {a b : Nat} (ha : a < 2 ^ 31) (hb : b < 2 ^ 31) : -nI a < -nI b ↔ b < a := by
  rw [Int32.lt_iff_toInt_lt, sb_negT ha, sb_negT hb]
  omega
theorem sb_cmp {A B : Prop} {x : Int32} (v c : Nat) (f : c ≤ v → A) (g : v < c → B) (hv : v < 2 ^ 31) (hx : x = -nI c := by rfl) (hc : c < 2 ^ 31 := by omega) : (-nI v ≤ x → A) ∧ (¬ -nI v ≤ x → B) := by
  subst hx
  rw [sb_nle hv hc]
  exact ⟨f, fun z => g (by omega)⟩
theorem sb_ndiv {w : Nat} (hw : w < 2 ^ 31) : (-nI w) / 100 = -nI (w / 100) := by
  apply Int32.toInt_inj.mp
  have h100 : (100 : Int32).toInt = 100 := by decide
  rw [Int32.toInt_div, sb_negT hw, h100, sb_negT (by omega), Int.neg_tdiv, Int.tdiv_eq_ediv_of_nonneg (by omega), Int.bmod_eq_of_le (by omega) (by omega)]
  omega
theorem sb_nrem {w : Nat} (hw : w < 2 ^ 31) : (-nI (w / 100)) * 100 - (-nI w) = nI (w % 100) := by
  have h := pk_rem (a := w) (d := 100) hw (by decide) (by decide)
  rw [pk_div hw (by decide) (by decide)] at h
  rw [← h]
  show (-nI (w / 100)) * nI 100 - (-nI w) = nI w - nI (w / 100) * nI 100
  rw [Int32.neg_mul, Int32.sub_neg, Int32.add_comm, ← Int32.sub_eq_add_neg]
end
section
/-! pure: lists against arrays, the pure decoder -/
def dv_gl (t : List Nat) (i : Nat) : Nat := t.getD i 0
theorem dv_gl_l {t : List Nat} : ∀ {s : List Nat} {i : Nat}, i < s.length → dv_gl (s ++ t) i = dv_gl s i
  | [], i, h => absurd h (Nat.not_lt_zero i)
  | _ :: _, 0, _ => rfl
  | b :: s, i + 1, h => by
    have := dv_gl_l (t := t) (s := s) (i := i) (Nat.lt_of_succ_lt_succ h)
    exact this
theorem dv_gl_r {t : List Nat} : ∀ (s : List Nat) (i : Nat), dv_gl (s ++ t) (s.length + i) = dv_gl t i
  | [], i => by show dv_gl t (0 + i) = _; rw [Nat.zero_add]
  | b :: s, i => by
    show dv_gl (b :: (s ++ t)) (s.length + 1 + i) = _
    rw [Nat.add_right_comm]
    exact dv_gl_r s i
def dv_Seg (a : Nat → Int32) (lo : Nat) (t : List Nat) : Prop := ∀ i, i < t.length → a (lo + i) = nI (dv_gl t i) ∧ dv_gl t i < 256
theorem dv_Seg_nil {a : Nat → Int32} {lo : Nat} : dv_Seg a lo [] := fun i h => absurd h (Nat.not_lt_zero i)
theorem dv_Seg_hd {a : Nat → Int32} {lo b : Nat} {t : List Nat} (h : dv_Seg a lo (b :: t)) : a lo = nI b ∧ b < 256 :=
  h 0 (Nat.zero_lt_succ _)
theorem dv_Seg_tl {a : Nat → Int32} {lo b : Nat} {t : List Nat} (h : dv_Seg a lo (b :: t)) : dv_Seg a (lo + 1) t := fun i hi => by
  have := h (i + 1) (Nat.succ_lt_succ hi)
  rw [show lo + 1 + i = lo + (i + 1) by omega]
  exact this
theorem dv_Seg_cons {a : Nat → Int32} {lo b : Nat} {t : List Nat} (h0 : a lo = nI b) (hb : b < 256) (h : dv_Seg a (lo + 1) t) : dv_Seg a lo (b :: t)
  | 0, _ => ⟨h0, hb⟩
  | i + 1, hi => by
    have := h i (Nat.lt_of_succ_lt_succ hi)
    rw [show lo + 1 + i = lo + (i + 1) by omega] at this
    exact this
theorem dv_Seg_appL {a : Nat → Int32} {lo : Nat} {s t : List Nat} (h : dv_Seg a lo (s ++ t)) : dv_Seg a lo s := fun i hi => by
  have := h i (by rw [List.length_append]; omega)
  rw [dv_gl_l hi] at this
  exact this
theorem dv_Seg_appR {a : Nat → Int32} {lo : Nat} {s t : List Nat} (h : dv_Seg a lo (s ++ t)) : dv_Seg a (lo + s.length) t := fun i hi => by
  have := h (s.length + i) (by rw [List.length_append]; omega)
  rw [dv_gl_r, ← Nat.add_assoc] at this
  exact this
theorem dv_Seg_app {a : Nat → Int32} {lo : Nat} {s t : List Nat} (h : dv_Seg a lo s) (h2 : dv_Seg a (lo + s.length) t) : dv_Seg a lo (s ++ t) := fun i hi => by
  rw [List.length_append] at hi
  by_cases z : i < s.length
  · rw [dv_gl_l z]; exact h i z
  · obtain ⟨j, rfl⟩ : ∃ j, i = s.length + j := ⟨i - s.length, by omega⟩
    rw [dv_gl_r, ← Nat.add_assoc]
    exact h2 j (by omega)
theorem dv_Seg_eq {a a' : Nat → Int32} {lo lo' : Nat} {t : List Nat} (h : dv_Seg a lo t) (e : ∀ i, i < t.length → a' (lo' + i) = a (lo + i)) : dv_Seg a' lo' t :=
  fun i hi => by rw [e i hi]; exact h i hi
theorem dv_Seg_out {a : Nat → Int32} {lo k : Nat} {v : Int32} {t : List Nat} (h : dv_Seg a lo t) (hk : k < lo ∨ lo + t.length ≤ k) : dv_Seg (upd a k v) lo t :=
  dv_Seg_eq h fun i hi => pk_un (by omega)
theorem dv_Seg_push {a : Nat → Int32} {lo b : Nat} {t : List Nat} (h : dv_Seg a lo t) (hb : b < 256) : dv_Seg (upd a (lo + t.length) (nI b)) lo (t ++ [b]) :=
  dv_Seg_app (dv_Seg_out h (Or.inr (Nat.le_refl _))) (dv_Seg_cons pk_us hb dv_Seg_nil)
theorem dv_gl_set {b : Nat} : ∀ {t : List Nat} {i j : Nat}, i < t.length → dv_gl (t.set i b) j = if j = i then b else dv_gl t j
  | [], i, j, h => absurd h (Nat.not_lt_zero i)
  | x :: t, 0, 0, _ => rfl
  | x :: t, 0, j + 1, _ => by rw [if_neg (by omega)]; rfl
  | x :: t, i + 1, 0, _ => by rw [if_neg (by omega)]; rfl
  | x :: t, i + 1, j + 1, h => by
    have := dv_gl_set (b := b) (t := t) (i := i) (j := j) (Nat.lt_of_succ_lt_succ h)
    show dv_gl (t.set i b) j = _
    rw [this]
    by_cases z : j = i
    · rw [if_pos z, if_pos (by omega)]
    · rw [if_neg z, if_neg (by omega)]; rfl
theorem dv_Seg_set {a : Nat → Int32} {lo i b : Nat} {t : List Nat} (h : dv_Seg a lo t) (hi : i < t.length) (hb : b < 256) : dv_Seg (upd a (lo + i) (nI b)) lo (t.set i b) := fun j hj => by
  rw [List.length_set] at hj
  rw [dv_gl_set hi]
  by_cases z : j = i
  · rw [if_pos z, z]; exact ⟨pk_us, hb⟩
  · rw [if_neg z, pk_un (by omega)]; exact h j hj
theorem dv_Seg_td {a : Nat → Int32} {lo n : Nat} {t : List Nat} (h : dv_Seg a lo t) (hn : n ≤ t.length) : dv_Seg a lo (t.take n) ∧ dv_Seg a (lo + n) (t.drop n) := by
  rw [← List.take_append_drop n t] at h
  have h1 := dv_Seg_appL h
  have h2 := dv_Seg_appR h
  rw [List.length_take, Nat.min_eq_left hn] at h2
  exact ⟨h1, h2⟩
/-! numbers -/
def dv_nu : Nat → Nat → List Nat → Option (Nat × List Nat)
  | 0, _, _ => none
  | _ + 1, _, [] => none
  | k + 1, v, b :: L => if b < 128 then some (v * 128 + b % 128, L) else dv_nu k (v * 128 + b % 128) L
def dv_num (L : List Nat) : Option (Nat × List Nat) := dv_nu 3 0 L
theorem dv_nu_lt : ∀ {k v : Nat} {L R : List Nat} {r : Nat}, dv_nu k v L = some (r, R) → r < (v + 1) * 128 ^ k ∧ R.length < L.length
  | 0, v, L, R, r, h => by simp [dv_nu] at h
  | k + 1, v, [], R, r, h => by simp [dv_nu] at h
  | k + 1, v, b :: L, R, r, h => by
    simp only [dv_nu] at h
    have hp : 0 < 128 ^ k := Nat.pos_of_ne_zero (by simp)
    have hm : (v * 128 + b % 128 + 1) * 128 ^ k ≤ (v + 1) * 128 ^ (k + 1) := by
      rw [Nat.pow_succ, Nat.mul_comm (128 ^ k) 128, ← Nat.mul_assoc]
      exact Nat.mul_le_mul_right _ (by omega)
    by_cases z : b < 128
    · rw [if_pos z] at h
      injection h with h
      injection h with h1 h2
      subst h1 h2
      refine ⟨Nat.lt_of_lt_of_le (Nat.lt_of_lt_of_le (Nat.lt_succ_self _) ?_) hm, by simp⟩
      exact Nat.le_mul_of_pos_right _ hp
    · rw [if_neg z] at h
      obtain ⟨h1, h2⟩ := dv_nu_lt h
      exact ⟨Nat.lt_of_lt_of_le h1 hm, by simp only [List.length_cons]; omega⟩
theorem dv_num_lt {L R : List Nat} {r : Nat} (h : dv_num L = some (r, R)) : r < 2097152 ∧ R.length < L.length := by
  have := dv_nu_lt h
  simp at this
  exact this
/-! the code table -/
def dv_sz (N S : Nat) : Nat := 77 + 29 * N + 21 * S
def dv_T (N S o : Nat) : Nat × Nat :=
  if o = 0 then (2, 0)
  else if o < 19 then (1 + 4 * (o - 1), 0)
  else if o < 19 + 16 * (2 + N + S) then
    (if (o - 19) % 16 = 0 then (3 + 128 * ((o - 19) / 16), 0) else (3 + 4 * ((o - 19) % 16 + 3) + 128 * ((o - 19) / 16), 0))
  else if o < 19 + 16 * (2 + N + S) + 12 * (N + 2) then
    (1 + 4 * ((o - (19 + 16 * (2 + N + S))) / 3 % 4 + 1), 3 + 4 * ((o - (19 + 16 * (2 + N + S))) % 3 + 4) + 128 * ((o - (19 + 16 * (2 + N + S))) / 12))
  else if o < 19 + 16 * (2 + N + S) + 12 * (N + 2) + 4 * S then
    (1 + 4 * ((o - (19 + 16 * (2 + N + S) + 12 * (N + 2))) % 4 + 1), 19 + 128 * ((o - (19 + 16 * (2 + N + S) + 12 * (N + 2))) / 4 + N + 2))
  else (19 + 128 * (o - (19 + 16 * (2 + N + S) + 12 * (N + 2) + 4 * S)), 5)
def dv_T1 (N S o : Nat) : Nat := (dv_T N S o).1
def dv_T2 (N S o : Nat) : Nat := (dv_T N S o).2
theorem dv_all3 {P : Nat → Nat → Nat → Bool} (h : ((List.range 5).all fun N => (List.range 4).all fun S => (List.range (dv_sz N S)).all fun o => P N S o) = true) {N S o : Nat} (hN : N ≤ 4) (hS : S ≤ 3) (ho : o < dv_sz N S) : P N S o = true := by
  simp only [List.all_eq_true, List.mem_range] at h
  exact h N (by omega) S (by omega) o ho
theorem dv_T_chk : ((List.range 5).all fun N => (List.range 4).all fun S => (List.range (dv_sz N S)).all fun o => decide (dv_T1 N S o / 128 < 2 + N + S ∧ dv_T2 N S o / 128 < 2 + N + S ∧ dv_T1 N S o < 2048 ∧ dv_T2 N S o < 2048)) = true := by
  decide +kernel
theorem dv_T_fact (N : Nat) (hN : N < 5) (S : Nat) (hS : S < 4) (o : Nat) (h : o < dv_sz N S) : dv_T1 N S o / 128 < 2 + N + S ∧ dv_T2 N S o / 128 < 2 + N + S ∧ dv_T1 N S o < 2048 ∧ dv_T2 N S o < 2048 :=
  of_decide_eq_true (dv_all3 dv_T_chk (by omega) (by omega) h)
/-! the pure decoder -/
abbrev dv_GT : Type := Nat → Nat × Int32 × Int32
abbrev dv_KT : Type := (Nat → Nat) × (Nat → Nat) × Nat
abbrev dv_IS : Type := List Nat × List Nat × List Nat × Nat × dv_GT × dv_KT
def dv_uN (f : Nat → Nat) (k x : Nat) : Nat → Nat := fun j => if j = k then x else f j
def dv_put (g : dv_GT) (w b : Nat) (k o : Int32) : dv_GT := fun j => if j = w then (b, k, o) else g j
def dv_add : List Nat → Nat → dv_GT → dv_GT
  | [], _, g => g
  | b :: L, w, g => dv_add L (w + 1) (dv_put g w b 1 (-1))
def dv_run (b : Nat) : Nat → Nat → dv_GT → dv_GT
  | 0, _, g => g
  | n + 1, w, g => dv_run b n (w + 1) (dv_put g w b 2 (-1))
def dv_src (Src : List Nat) (sf sg sp ws : Nat) (g : dv_GT) (u : Nat) : Nat × Int32 :=
  if u < sg then (if sf = 1 then (dv_gl Src (sp + u), nI (sp + u)) else ((g (sp + u)).1, (g (sp + u)).2.2)) else ((g (ws + u - sg)).1, (g (ws + u - sg)).2.2)
def dv_cpy (Src : List Nat) (sf sg sp ws : Nat) : Nat → Nat → Nat → dv_GT → dv_GT
  | 0, _, _, g => g
  | n + 1, u, w, g => dv_cpy Src sf sg sp ws n (u + 1) (w + 1) (dv_put g w (dv_src Src sf sg sp ws g u).1 3 (dv_src Src sf sg sp ws g u).2)
def dv_chk (a here : Nat) (A : List Nat) : Except Nat (Nat × List Nat) := if a < here then .ok (a, A) else .error 8
def dv_adr (N : Nat) (K : dv_KT) (mode here : Nat) (A : List Nat) : Except Nat (Nat × List Nat) :=
  if mode < N + 2 then
    match dv_num A with
    | none => .error 1
    | some (v, A') =>
      if mode = 0 then dv_chk v here A'
      else if mode = 1 then (if v ≤ here then dv_chk (here - v) here A' else .error 8)
      else dv_chk (K.1 (mode - 2) + v) here A'
  else
    match A with
    | [] => .error 8
    | b :: A' => if b < 16 then dv_chk (K.2.1 (16 * (mode - N - 2) + b)) here A' else .error 8
def dv_lrn (N S a : Nat) (K : dv_KT) : dv_KT :=
  (if 0 < N then dv_uN K.1 (K.2.2 % N) a else K.1, if 0 < S then dv_uN K.2.1 (a % (16 * S)) a else K.2.1, K.2.2 + 1)
def dv_cpl (N S : Nat) (Src : List Nat) (sf sg sp ws n : Nat) (D C : List Nat) (w : Nat) (g : dv_GT) (K : dv_KT) : Except Nat (Nat × List Nat) → Except Nat dv_IS
  | .error k => .error k
  | .ok (a, A') => .ok (D, C, A', w + n, dv_cpy Src sf sg sp ws n a w g, dv_lrn N S a K)
def dv_bdy (N S : Nat) (Src : List Nat) (sf sg sp ws wl kind mode n : Nat) : dv_IS → Except Nat dv_IS
  | (D, C, A, w, g, K) =>
    if wl < w - ws + n then .error 9
    else if kind = 1 then (if D.length < n then .error 7 else .ok (D.drop n, C, A, w + n, dv_add (D.take n) w g, K))
    else if kind = 2 then
      match D with
      | [] => .error 7
      | b :: D' => .ok (D', C, A, w + n, dv_run b n w g, K)
    else dv_cpl N S Src sf sg sp ws n D C w g K (dv_adr N K mode (sg + w - ws) A)
def dv_hlf (N S : Nat) (Src : List Nat) (sf sg sp ws wl e : Nat) : dv_IS → Except Nat dv_IS
  | (D, C, A, w, g, K) =>
    if e / 4 % 32 = 0 then
      match dv_num C with
      | none => .error 1
      | some (n, C') => dv_bdy N S Src sf sg sp ws wl (e % 4) (e / 128) n (D, C', A, w, g, K)
    else dv_bdy N S Src sf sg sp ws wl (e % 4) (e / 128) (e / 4 % 32) (D, C, A, w, g, K)
def dv_trn (N S : Nat) (Src : List Nat) (sf sg sp ws wl op : Nat) (s : dv_IS) : Except Nat dv_IS :=
  if op < dv_sz N S then
    match dv_hlf N S Src sf sg sp ws wl (dv_T1 N S op) s with
    | .error k => .error k
    | .ok s' => if dv_T2 N S op = 0 then .ok s' else dv_hlf N S Src sf sg sp ws wl (dv_T2 N S op) s'
  else .error 6
def dv_trs (N S : Nat) (Src : List Nat) (sf sg sp ws wl : Nat) : Nat → dv_IS → Except Nat dv_IS
  | 0, s => .ok s
  | _ + 1, (D, [], A, w, g, K) => .ok (D, [], A, w, g, K)
  | k + 1, (D, op :: C, A, w, g, K) =>
    match dv_trn N S Src sf sg sp ws wl op (D, C, A, w, g, K) with
    | .error e => .error e
    | .ok s' => dv_trs N S Src sf sg sp ws wl k s'
def dv_seg (sl w : Nat) (H : List Nat) : Except Nat (Nat × Nat × Nat × List Nat) :=
  match H with
  | [] => .error 2
  | b :: H1 =>
    if 2 < b then .error 2
    else if b = 0 then .ok (0, 0, 0, H1)
    else
      match dv_num H1 with
      | none => .error 1
      | some (sg, H2) =>
        match dv_num H2 with
        | none => .error 1
        | some (sp, H3) => if sp + sg ≤ (if b = 1 then sl else w) then .ok (b, sg, sp, H3) else .error 3
def dv_sec (tl w : Nat) (H : List Nat) : Except Nat (Nat × List Nat × List Nat × List Nat × List Nat) :=
  match dv_num H with
  | none => .error 1
  | some (rest, H1) =>
    if H1.length < rest then .error 5
    else
      match dv_num H1 with
      | none => .error 1
      | some (wl, H2) =>
        if tl < w + wl then .error 4
        else
          match H2 with
          | [] => .error 5
          | b :: H3 =>
            if b = 0 then
              match dv_num H3 with
              | none => .error 1
              | some (x, H4) =>
                match dv_num H4 with
                | none => .error 1
                | some (y, H5) =>
                  match dv_num H5 with
                  | none => .error 1
                  | some (z, H6) =>
                    if H1.length - H6.length + x + y + z = rest then .ok (wl, H6.take x, (H6.drop x).take y, (H6.drop (x + y)).take z, H6.drop (x + y + z))
                    else .error 5
            else .error 2
def dv_K0 : dv_KT := (fun _ => 0, fun _ => 0, 0)
def dv_g0 : dv_GT := fun _ => (0, 0, 0)
def dv_fin (ws wl : Nat) (H : List Nat) : dv_IS → Except Nat (Nat × dv_GT × List Nat)
  | (D, _, A, w, g, _) => if w - ws < wl then .error 10 else if 0 < D.length then .error 10 else if 0 < A.length then .error 10 else .ok (w, g, H)
def dv_win (N S tl : Nat) (Src : List Nat) (w : Nat) (g : dv_GT) (H : List Nat) : Except Nat (Nat × dv_GT × List Nat) :=
  match dv_seg Src.length w H with
  | .error k => .error k
  | .ok (sf, sg, sp, H1) =>
    match dv_sec tl w H1 with
    | .error k => .error k
    | .ok (wl, D, C, A, H2) =>
      match dv_trs N S Src sf sg sp w wl C.length (D, C, A, w, g, dv_K0) with
      | .error k => .error k
      | .ok s => dv_fin w wl H2 s
def dv_wns (N S tl : Nat) (Src : List Nat) : Nat → Nat → dv_GT → List Nat → Except Nat (Nat × dv_GT)
  | 0, w, g, _ => .ok (w, g)
  | _ + 1, w, g, [] => .ok (w, g)
  | k + 1, w, g, b :: H =>
    match dv_win N S tl Src w g (b :: H) with
    | .error e => .error e
    | .ok (w', g', H') => dv_wns N S tl Src k w' g' H'
def dv_dec (N S tl : Nat) (Src H : List Nat) : Except Nat (Nat × dv_GT) := dv_wns N S tl Src H.length 0 dv_g0 H
theorem dv_bdy_len {N S : Nat} {Src : List Nat} {sf sg sp ws wl kind mode n : Nat} {D C A D' C' A' : List Nat} {w w' : Nat} {g g' : dv_GT} {K K' : dv_KT}
    (h : dv_bdy N S Src sf sg sp ws wl kind mode n (D, C, A, w, g, K) = .ok (D', C', A', w', g', K')) : C' = C ∧ A'.length + K'.2.2 ≤ A.length + K.2.2 := by
  simp only [dv_bdy] at h
  by_cases c1 : wl < w - ws + n
  · simp [c1] at h
  · simp only [c1, if_false] at h
    by_cases c2 : kind = 1
    · simp only [c2, if_true] at h
      by_cases c3 : D.length < n
      · simp [c3] at h
      · simp only [c3, if_false] at h
        injection h with h
        simp only [Prod.mk.injEq] at h
        obtain ⟨_, rfl, rfl, _, _, rfl⟩ := h
        exact ⟨rfl, Nat.le_refl _⟩
    · simp only [c2, if_false] at h
      by_cases c3 : kind = 2
      · simp only [c3, if_true] at h
        cases D with
        | nil => simp at h
        | cons b D1 =>
          simp only at h
          injection h with h
          simp only [Prod.mk.injEq] at h
          obtain ⟨_, rfl, rfl, _, _, rfl⟩ := h
          exact ⟨rfl, Nat.le_refl _⟩
      · simp only [c3, if_false] at h
        cases e : dv_adr N K mode (sg + w - ws) A with
        | error k => simp [e, dv_cpl] at h
        | ok x =>
          obtain ⟨a, A1⟩ := x
          simp only [e, dv_cpl] at h
          injection h with h
          simp only [Prod.mk.injEq] at h
          obtain ⟨_, rfl, rfl, _, _, rfl⟩ := h
          refine ⟨rfl, ?_⟩
          have la : A1.length < A.length := by
            have chk : ∀ {x here : Nat} {L : List Nat}, dv_chk x here L = .ok (a, A1) → A1 = L := by
              intro x here L q
              unfold dv_chk at q
              by_cases y : x < here
              · rw [if_pos y] at q
                injection q with q
                simp only [Prod.mk.injEq] at q
                exact q.2.symm
              · rw [if_neg y] at q
                simp at q
            unfold dv_adr at e
            by_cases c4 : mode < N + 2
            · rw [if_pos c4] at e
              cases e5 : dv_num A with
              | none => simp [e5] at e
              | some x =>
                obtain ⟨v, A2⟩ := x
                have l := (dv_num_lt e5).2
                simp only [e5] at e
                by_cases c6 : mode = 0
                · rw [if_pos c6] at e
                  rw [chk e]; exact l
                · rw [if_neg c6] at e
                  by_cases c7 : mode = 1
                  · rw [if_pos c7] at e
                    by_cases c8 : v ≤ sg + w - ws
                    · rw [if_pos c8] at e
                      rw [chk e]; exact l
                    · rw [if_neg c8] at e
                      simp at e
                  · rw [if_neg c7] at e
                    rw [chk e]; exact l
            · rw [if_neg c4] at e
              cases A with
              | nil => simp at e
              | cons b A2 =>
                simp only at e
                by_cases c5 : b < 16
                · rw [if_pos c5] at e
                  rw [chk e]; simp
                · rw [if_neg c5] at e
                  simp at e
          show A1.length + (K.2.2 + 1) ≤ _
          omega
theorem dv_hlf_len2 {N S : Nat} {Src : List Nat} {sf sg sp ws wl e : Nat} {D C A D' C' A' : List Nat} {w w' : Nat} {g g' : dv_GT} {K K' : dv_KT}
    (h : dv_hlf N S Src sf sg sp ws wl e (D, C, A, w, g, K) = .ok (D', C', A', w', g', K')) : C'.length ≤ C.length ∧ A'.length + K'.2.2 ≤ A.length + K.2.2 := by
  simp only [dv_hlf] at h
  by_cases c1 : e / 4 % 32 = 0
  · simp only [c1, if_true] at h
    cases e1 : dv_num C with
    | none => simp [e1] at h
    | some x =>
      obtain ⟨n, C1⟩ := x
      simp only [e1] at h
      obtain ⟨q1, q2⟩ := dv_bdy_len h
      have := (dv_num_lt e1).2
      rw [q1]
      exact ⟨by omega, q2⟩
  · simp only [c1, if_false] at h
    obtain ⟨q1, q2⟩ := dv_bdy_len h
    rw [q1]
    exact ⟨Nat.le_refl _, q2⟩
theorem dv_hlf_len {N S : Nat} {Src : List Nat} {sf sg sp ws wl e : Nat} {D C A D' C' A' : List Nat} {w w' : Nat} {g g' : dv_GT} {K K' : dv_KT}
    (h : dv_hlf N S Src sf sg sp ws wl e (D, C, A, w, g, K) = .ok (D', C', A', w', g', K')) : C'.length ≤ C.length := (dv_hlf_len2 h).1
end
section
/-! X: bytes, numbers, the head of a window -/
def dv_PT (st cu sp : Nat → Int32) (p : Nat) (D : List Nat) : Prop := ∃ d, cu p = nI d ∧ sp p = nI (d + D.length) ∧ d + D.length ≤ 3072 ∧ dv_Seg st d D
theorem dv_PT_fr {st cu cu' sp : Nat → Int32} {p : Nat} {D : List Nat} (h : dv_PT st cu sp p D) (e : cu' p = cu p) : dv_PT st cu' sp p D := by
  obtain ⟨d, h1, h2⟩ := h
  exact ⟨d, e.trans h1, h2⟩
theorem dv_PT_un {st cu sp : Nat → Int32} {p q : Nat} {x : Int32} {D : List Nat} (h : dv_PT st cu sp p D) (e : p ≠ q) : dv_PT st (upd cu q x) sp p D :=
  dv_PT_fr h (pk_un e)
theorem dv_b4 {p : Nat} (h : p < 4) : p < 2 ^ 31 := by omega
theorem dv_bx : ∀ b, b < 256 → (¬ nI b < 0) ∧ (0 ≤ nI b) ∧ (128 ≤ nI b ↔ 128 ≤ b) ∧ nI b &&& 127 = nI (b % 128) := by decide +kernel
section
variable {xq0 xq1 xq2 xq3 xq4 xq5 xq6 xtl xdl xnc xsc xts xni xwl xsf xsl xss xws xwn xpn xle xla xbk xbz xba xbg : Int32} {xst xln xok xoo xpz xfh xsh xne xsm xwb xwk xwo xcu xsp xsa xpv xch xpt xpl : Nat → Int32}
theorem dx_next {post : Int32 → SX → Prop} {p : Nat} (hp : p < 4) {D : List Nat} (h : dv_PT xst xcu xsp p D)
    (h0 : D = [] → post (-1) (xq0, xq1, xq2, xq3, xq4, xq5, xq6, xtl, xdl, xnc, xsc, xts, xni, xwl, xsf, xsl, xss, xws, xwn, xpn, xle, xla, xbk, xbz, xba, xbg, xst, xln, xok, xoo, xpz, xfh, xsh, xne, xsm, xwb, xwk, xwo, xcu, xsp, xsa, xpv, xch, xpt, xpl))
    (h1 : ∀ b D' x, D = b :: D' → b < 256 → dv_PT xst (upd xcu p x) xsp p D' → post (nI b) (xq0, xq1, xq2, xq3, xq4, xq5, xq6, xtl, xdl, xnc, xsc, xts, xni, xwl, xsf, xsl, xss, xws, xwn, xpn, xle, xla, xbk, xbz, xba, xbg, xst, xln, xok, xoo, xpz, xfh, xsh, xne, xsm, xwb, xwk, xwo, upd xcu p x, xsp, xsa, xpv, xch, xpt, xpl)) :
    wpX_nextByte post (xq0, xq1, xq2, xq3, xq4, xq5, xq6, xtl, xdl, xnc, xsc, xts, xni, xwl, xsf, xsl, xss, xws, xwn, xpn, xle, xla, xbk, xbz, xba, xbg, xst, xln, xok, xoo, xpz, xfh, xsh, xne, xsm, xwb, xwk, xwo, xcu, xsp, xsa, xpv, xch, xpt, xpl) (nI p) := by
  obtain ⟨d, e1, e2, e3, e4⟩ := h
  have i4 : vp_in (nI p) 4 := vp_in_nI hp (by omega)
  unfold wpX_nextByte
  dsimp only
  rw [nI_clamp (dv_b4 hp), e1, e2]
  cases D with
  | nil => exact ⟨i4, i4, br_f (nI_nlt (by simp) (by simp at e3; omega)) (h0 rfl)⟩
  | cons b D' =>
    rw [List.length_cons] at e2 e3
    obtain ⟨s1, s2⟩ := dv_Seg_hd e4
    have hd : d < 2 ^ 31 := by omega
    refine ⟨i4, i4, br_t (nI_lt (by simp) (by simp; omega)) ⟨i4, vp_in_nI (by omega) (by omega), nm_r (e' := nI b) ?_ ⟨i4, i4, nm_e ?_⟩⟩⟩
    · rw [nI_clamp hd, s1]
    · exact h1 b D' _ rfl s2 ⟨d + 1, by rw [pk_us, nI_1], by rw [e2]; exact congrArg nI (by omega), by omega, dv_Seg_tl e4⟩
theorem dx_int4 {post : Int32 → SX → Prop} {p : Nat} (hp : p < 4) : ∀ (k v t n : Nat) (D : List Nat) (xcu : Nat → Int32), k + t = 3 → k < n → v < 128 ^ t → dv_PT xst xcu xsp p D →
    (∀ r D' xcu', dv_nu k v D = some (r, D') → dv_PT xst xcu' xsp p D' → (∀ q, q ≠ p → xcu' q = xcu q) → post (nI r) (xq0, xq1, xq2, xq3, xq4, xq5, xq6, xtl, xdl, xnc, xsc, xts, xni, xwl, xsf, xsl, xss, xws, xwn, xpn, xle, xla, xbk, xbz, xba, xbg, xst, xln, xok, xoo, xpz, xfh, xsh, xne, xsm, xwb, xwk, xwo, xcu', xsp, xsa, xpv, xch, xpt, xpl)) →
    (dv_nu k v D = none → ∀ xcu', post (-1) (xq0, xq1, xq2, xq3, xq4, xq5, xq6, xtl, xdl, xnc, xsc, xts, xni, xwl, xsf, xsl, xss, xws, xwn, xpn, xle, xla, xbk, xbz, xba, xbg, xst, xln, xok, xoo, xpz, xfh, xsh, xne, xsm, xwb, xwk, xwo, xcu', xsp, xsa, xpv, xch, xpt, xpl)) →
    wX_readInteger_4 post (nI p) n (nI v) (nI t) xq0 xq1 xq2 xq3 xq4 xq5 xq6 xtl xdl xnc xsc xts xni xwl xsf xsl xss xws xwn xpn xle xla xbk xbz xba xbg xst xln xok xoo xpz xfh xsh xne xsm xwb xwk xwo xcu xsp xsa xpv xch xpt xpl := by
  intro k
  induction k with
  | zero =>
    intro v t n D xcu ht hn hv hD ok bad
    obtain ⟨n, rfl⟩ : ∃ m, n = m + 1 := ⟨n - 1, by omega⟩
    obtain rfl : t = 3 := by omega
    exact br_t (nI_le (a := 3) (b := 3) (by omega) (by omega)) (bad rfl xcu)
  | succ k ih =>
    intro v t n D xcu ht hn hv hD ok bad
    obtain ⟨n, rfl⟩ : ∃ m, n = m + 1 := ⟨n - 1, by omega⟩
    have hv3 : 128 ^ t ≤ 16384 := by
      have : t = 0 ∨ t = 1 ∨ t = 2 := by omega
      rcases this with rfl | rfl | rfl <;> decide
    refine br_f (nI_ge (b := 3) (by omega) (by omega)) (dx_next hp hD ?_ ?_)
    · intro e
      subst e
      exact br_f (by decide) (bad rfl _)
    · intro b D' x e hb hD'
      subst e
      obtain ⟨c1, c2, c3, c4⟩ := dv_bx b hb
      refine br_t c2 (nm_r (e' := nI (v * 128 + b % 128)) ?_ ?_)
      · rw [c4, show (128 : Int32) = nI 128 from rfl, pk_mul, nI_add]
      · by_cases z : b < 128
        · refine br_f (by rw [c3]; omega) (ok _ _ _ ?_ hD' fun q hq => pk_un hq)
          show (if b < 128 then _ else _) = _
          rw [if_pos z]
        · have e1 : dv_nu (k + 1) v (b :: D') = dv_nu k (v * 128 + b % 128) D' := by
            show (if b < 128 then _ else _) = _
            rw [if_neg z]
          rw [e1] at ok bad
          refine br_t (by rw [c3]; omega) (nm_r (nI_1 t) (ih _ _ _ _ _ (by omega) (by omega) ?_ hD' ?_ bad))
          · rw [Nat.pow_succ]; omega
          · intro r R xcu' h1 h2 h3
            exact ok r R xcu' h1 h2 fun q hq => (h3 q hq).trans (pk_un hq)
theorem dx_int {post : Int32 → SX → Prop} {p : Nat} (hp : p < 4) {D : List Nat} (h : dv_PT xst xcu xsp p D)
    (ok : ∀ r D' xcu', dv_num D = some (r, D') → r < 2097152 → dv_PT xst xcu' xsp p D' → (∀ q, q ≠ p → xcu' q = xcu q) → post (nI r) (xq0, xq1, xq2, xq3, xq4, xq5, xq6, xtl, xdl, xnc, xsc, xts, xni, xwl, xsf, xsl, xss, xws, xwn, xpn, xle, xla, xbk, xbz, xba, xbg, xst, xln, xok, xoo, xpz, xfh, xsh, xne, xsm, xwb, xwk, xwo, xcu', xsp, xsa, xpv, xch, xpt, xpl))
    (bad : dv_num D = none → ∀ xcu', post (-1) (xq0, xq1, xq2, xq3, xq4, xq5, xq6, xtl, xdl, xnc, xsc, xts, xni, xwl, xsf, xsl, xss, xws, xwn, xpn, xle, xla, xbk, xbz, xba, xbg, xst, xln, xok, xoo, xpz, xfh, xsh, xne, xsm, xwb, xwk, xwo, xcu', xsp, xsa, xpv, xch, xpt, xpl)) :
    wpX_readInteger post (xq0, xq1, xq2, xq3, xq4, xq5, xq6, xtl, xdl, xnc, xsc, xts, xni, xwl, xsf, xsl, xss, xws, xwn, xpn, xle, xla, xbk, xbz, xba, xbg, xst, xln, xok, xoo, xpz, xfh, xsh, xne, xsm, xwb, xwk, xwo, xcu, xsp, xsa, xpv, xch, xpt, xpl) (nI p) :=
  ⟨4, dx_int4 hp 3 0 0 4 D xcu rfl (by omega) (by omega) h (fun r D' xcu' h1 => ok r D' xcu' h1 (dv_num_lt h1).1) bad⟩
end
end
section
theorem dv_n2 {v : Nat} (h : v < 2097152) : v < 2 ^ 31 := by omega
theorem dv_p0 {v : Nat} (h : v < 2097152) : 0 ≤ nI v := nI_pos' (by omega)
section
variable {xq0 xq1 xq2 xq3 xq4 xq5 xq6 xtl xdl xnc xsc xts xni xwl xsf xsl xss xws xwn xpn xle xla xbk xbz xba xbg : Int32} {xst xln xok xoo xpz xfh xsh xne xsm xwb xwk xwo xcu xsp xsa xpv xch xpt xpl : Nat → Int32}
theorem dx_seg {post : Int32 → SX → Prop} {w sl : Nat} {H : List Nat} (hw : w ≤ 128) (hs : sl ≤ 128) (hl : xln 0 = nI sl) (h : dv_PT xst xcu xsp 0 H)
    (ok : ∀ sf sg sp H' xcu', dv_seg sl w H = .ok (sf, sg, sp, H') → dv_PT xst xcu' xsp 0 H' → post 0 (xq0, xq1, xq2, xq3, xq4, xq5, xq6, xtl, xdl, xnc, xsc, xts, xni, nI w, nI sf, nI sg, nI sp, nI w, xwn, xpn, xle, xla, xbk, xbz, xba, xbg, xst, xln, xok, xoo, xpz, xfh, xsh, xne, xsm, xwb, xwk, xwo, xcu', xsp, xsa, xpv, xch, xpt, xpl))
    (bad : ∀ k a b c xcu', 1 ≤ k → k ≤ 10 → dv_seg sl w H = .error k → post (nI k) (xq0, xq1, xq2, xq3, xq4, xq5, xq6, xtl, xdl, xnc, xsc, xts, xni, nI w, a, b, c, nI w, xwn, xpn, xle, xla, xbk, xbz, xba, xbg, xst, xln, xok, xoo, xpz, xfh, xsh, xne, xsm, xwb, xwk, xwo, xcu', xsp, xsa, xpv, xch, xpt, xpl)) :
    wpX_readSegment post (xq0, xq1, xq2, xq3, xq4, xq5, xq6, xtl, xdl, xnc, xsc, xts, xni, nI w, xsf, xsl, xss, xws, xwn, xpn, xle, xla, xbk, xbz, xba, xbg, xst, xln, xok, xoo, xpz, xfh, xsh, xne, xsm, xwb, xwk, xwo, xcu, xsp, xsa, xpv, xch, xpt, xpl) := by
  unfold wpX_readSegment
  refine dx_next (p := 0) (by omega) h ?_ ?_
  · intro e
    subst e
    exact br_t (by decide) (bad 2 _ _ _ _ (by omega) (by omega) rfl)
  · intro b H1 x e hb hH
    subst e
    obtain ⟨c1, c2, c3, c4⟩ := dv_bx b hb
    refine br_f c1 ?_
    by_cases z : 2 < b
    · refine br_f (nI_ge (a := 2) z (by omega)) (bad 2 _ _ _ _ (by omega) (by omega) ?_)
      simp only [dv_seg, z, if_true]
    · refine br_t (nI_le (b := 2) (by omega) (by omega)) ?_
      by_cases z0 : b = 0
      · subst z0
        exact br_t rfl (ok 0 0 0 H1 _ rfl hH)
      · refine br_f (nI_ne0 (by omega) (by omega)) (dx_int (p := 0) (by omega) hH ?_ ?_)
        · intro sg H2 cu2 e2 b2 hH2 _
          refine br_t (dv_p0 b2) (dx_int (p := 0) (by omega) hH2 ?_ ?_)
          · intro sp H3 cu3 e3 b3 hH3 _
            refine br_t (dv_p0 b3) ?_
            have fin : ∀ av : Nat, av ≤ 128 → av = (if b = 1 then sl else w) → wX_readSegment_110 post (nI av) xq0 xq1 xq2 xq3 xq4 xq5 xq6 xtl xdl xnc xsc xts xni (nI w) (nI b) (nI sg) (nI sp) (nI w) xwn xpn xle xla xbk xbz xba xbg xst xln xok xoo xpz xfh xsh xne xsm xwb xwk xwo cu3 xsp xsa xpv xch xpt xpl := by
              intro av ha ea
              unfold wX_readSegment_110
              rw [nI_add]
              refine pk_le (sp + sg) av (fun le => ?_) (fun gt => ?_)
              · refine ok b sg sp H3 _ ?_ hH3
                simp only [dv_seg, z, z0, if_false, e2, e3, ← ea, le, if_true]
              · refine bad 3 _ _ _ _ (by omega) (by omega) ?_
                simp only [dv_seg, z, z0, if_false, e2, e3, ← ea, Nat.not_le.mpr gt]
            by_cases z1 : b = 1
            · refine br_t (by rw [z1]; rfl) ?_
              rw [hl]
              exact fin sl hs (by rw [if_pos z1])
            · refine br_f (fun q => z1 ((nI_eq (b := 1) (by omega) (by omega)).mp q)) ?_
              exact fin w hw (by rw [if_neg z1])
          · intro e3 cu3
            refine br_f (by decide) (bad 1 _ _ _ _ (by omega) (by omega) ?_)
            simp only [dv_seg, z, z0, if_false, e2, e3]
        · intro e2 cu2
          refine br_f (by decide) (bad 1 _ _ _ _ (by omega) (by omega) ?_)
          simp only [dv_seg, z, z0, if_false, e2]
theorem dx_sec {post : Int32 → SX → Prop} {w tl : Nat} {H : List Nat} (hw : w ≤ 128) (ht : tl ≤ 128) (h : dv_PT xst xcu xsp 0 H)
    (ok : ∀ wl D C A H' xcu' xsp', dv_sec tl w H = .ok (wl, D, C, A, H') → dv_PT xst xcu' xsp' 0 H' → dv_PT xst xcu' xsp' 1 D → dv_PT xst xcu' xsp' 2 C → dv_PT xst xcu' xsp' 3 A → wl < 2097152 → post 0 (xq0, xq1, xq2, xq3, xq4, xq5, xq6, nI tl, xdl, xnc, xsc, xts, xni, nI w, xsf, xsl, xss, xws, nI wl, xpn, xle, xla, xbk, xbz, xba, xbg, xst, xln, xok, xoo, xpz, xfh, xsh, xne, xsm, xwb, xwk, xwo, xcu', xsp', xsa, xpv, xch, xpt, xpl))
    (bad : ∀ k a xcu' xsp', 1 ≤ k → k ≤ 10 → dv_sec tl w H = .error k → post (nI k) (xq0, xq1, xq2, xq3, xq4, xq5, xq6, nI tl, xdl, xnc, xsc, xts, xni, nI w, xsf, xsl, xss, xws, a, xpn, xle, xla, xbk, xbz, xba, xbg, xst, xln, xok, xoo, xpz, xfh, xsh, xne, xsm, xwb, xwk, xwo, xcu', xsp', xsa, xpv, xch, xpt, xpl)) :
    wpX_readSections post (xq0, xq1, xq2, xq3, xq4, xq5, xq6, nI tl, xdl, xnc, xsc, xts, xni, nI w, xsf, xsl, xss, xws, xwn, xpn, xle, xla, xbk, xbz, xba, xbg, xst, xln, xok, xoo, xpz, xfh, xsh, xne, xsm, xwb, xwk, xwo, xcu, xsp, xsa, xpv, xch, xpt, xpl) := by
  unfold wpX_readSections
  refine dx_int (p := 0) (by omega) h ?_ ?_
  · intro rest H1 cu1 e1 b1 hH1 _
    refine br_t (dv_p0 b1) ?_
    obtain ⟨d, f1, f2, f3, f4⟩ := id hH1
    refine nm_r (e' := nI (d + rest)) (by rw [f1, nI_add]) ?_
    refine pk_le (d + rest) (d + H1.length) (fun le => ?_) (fun gt => ?_) rfl f2
    · have le' : ¬ H1.length < rest := by omega
      refine dx_int (p := 0) (by omega) hH1 ?_ ?_
      · intro wl H2 cu2 e2 b2 hH2 _
        refine br_t (dv_p0 b2) ?_
        refine pk_le (w + wl) tl (fun le2 => ?_) (fun gt2 => ?_) (nI_add w wl)
        · have le2' : ¬ tl < w + wl := by omega
          refine dx_next (p := 0) (by omega) hH2 ?_ ?_
          · intro e
            subst e
            refine br_f (by decide) (bad 5 _ _ _ (by omega) (by omega) ?_)
            simp only [dv_sec, e1, e2, le', le2', if_false]
          · intro b H3 x e hb hH3
            subst e
            obtain ⟨c1, c2, c3, c4⟩ := dv_bx b hb
            refine br_t c2 ?_
            by_cases z : b = 0
            · subst z
              refine br_t rfl (dx_int (p := 0) (by omega) hH3 ?_ ?_)
              · intro x4 H4 cu4 e4 b4 hH4 _
                refine br_t (dv_p0 b4) (dx_int (p := 0) (by omega) hH4 ?_ ?_)
                · intro x5 H5 cu5 e5 b5 hH5 _
                  refine br_t (dv_p0 b5) (dx_int (p := 0) (by omega) hH5 ?_ ?_)
                  · intro x6 H6 cu6 e6 b6 hH6 _
                    obtain ⟨d6, g1, g2, g3, g4⟩ := id hH6
                    have l2 := (dv_num_lt e2).2
                    have l4 := (dv_num_lt e4).2
                    have l5 := (dv_num_lt e5).2
                    have l6 := (dv_num_lt e6).2
                    simp only [List.length_cons] at l2
                    have dd : d6 + H6.length = d + H1.length := by
                      have := g2.symm.trans f2
                      rw [nI_eq (by omega) (by omega)] at this
                      exact this
                    refine br_t (dv_p0 b6) (nm_r (e' := nI d6) g1 ?_)
                    refine pk_eq (d6 + x4 + x5 + x6) (d + rest) (fun eq => ?_) (fun ne => ?_) (by rw [nI_add, nI_add, nI_add])
                    · have q : H1.length - H6.length + x4 + x5 + x6 = rest := by omega
                      have m1 : x4 ≤ H6.length := by omega
                      obtain ⟨s1, s2⟩ := dv_Seg_td g4 m1
                      obtain ⟨s3, s4⟩ := dv_Seg_td s2 (n := x5) (by rw [List.length_drop]; omega)
                      rw [List.drop_drop] at s4
                      obtain ⟨s5, s6⟩ := dv_Seg_td s4 (n := x6) (by rw [List.length_drop]; omega)
                      rw [List.drop_drop] at s6
                      refine nm_e (nm_e (nm_e (nm_e (nm_e (nm_e (nm_e ?_))))))
                      refine ok wl (H6.take x4) ((H6.drop x4).take x5) ((H6.drop (x4 + x5)).take x6) (H6.drop (x4 + x5 + x6)) _ _ ?_ ?_ ?_ ?_ ?_ b2
                      · simp only [dv_sec, e1, e2, le', le2', if_false, e4, e5, e6, q, if_true]
                      · refine ⟨d + rest, ?_, ?_, by rw [List.length_drop]; omega, ?_⟩
                        · rfl
                        · show xsp 0 = _
                          rw [f2, List.length_drop]
                          exact congrArg nI (by omega)
                        · rw [← eq]; exact s6
                      · refine ⟨d6, ?_, ?_, by rw [List.length_take]; omega, s1⟩
                        · rfl
                        · show nI d6 + nI x4 = _
                          rw [nI_add, List.length_take, Nat.min_eq_left m1]
                      · refine ⟨d6 + x4, ?_, ?_, by rw [List.length_take, List.length_drop]; omega, s3⟩
                        · show nI d6 + nI x4 = _
                          rw [nI_add]
                        · show nI d6 + nI x4 + nI x5 = _
                          rw [nI_add, nI_add, List.length_take, List.length_drop, Nat.min_eq_left (by omega)]
                      · refine ⟨d6 + x4 + x5, ?_, ?_, by rw [List.length_take, List.length_drop]; omega, s5⟩
                        · show nI d6 + nI x4 + nI x5 = _
                          rw [nI_add, nI_add]
                        · show nI (d + rest) = _
                          rw [← eq, List.length_take, List.length_drop, Nat.min_eq_left (by omega)]
                    · refine bad 5 _ _ _ (by omega) (by omega) ?_
                      have q : ¬ H1.length - H6.length + x4 + x5 + x6 = rest := by omega
                      simp only [dv_sec, e1, e2, le', le2', if_false, e4, e5, e6, q, if_true]
                  · intro e6 cu6
                    refine br_f (by decide) (bad 1 _ _ _ (by omega) (by omega) ?_)
                    simp only [dv_sec, e1, e2, le', le2', if_false, e4, e5, e6, if_true]
                · intro e5 cu5
                  refine br_f (by decide) (bad 1 _ _ _ (by omega) (by omega) ?_)
                  simp only [dv_sec, e1, e2, le', le2', if_false, e4, e5, if_true]
              · intro e4 cu4
                refine br_f (by decide) (bad 1 _ _ _ (by omega) (by omega) ?_)
                simp only [dv_sec, e1, e2, le', le2', if_false, e4, if_true]
            · refine br_f (nI_ne0 (by omega) (by omega)) (bad 2 _ _ _ (by omega) (by omega) ?_)
              simp only [dv_sec, e1, e2, le', le2', if_false, z]
        · refine bad 4 _ _ _ (by omega) (by omega) ?_
          simp only [dv_sec, e1, e2, le', if_false, gt2, if_true]
      · intro e2 cu2
        refine br_f (by decide) (bad 1 _ _ _ (by omega) (by omega) ?_)
        simp only [dv_sec, e1, e2, le', if_false]
    · refine bad 5 _ _ _ (by omega) (by omega) ?_
      have gt' : H1.length < rest := by omega
      simp only [dv_sec, e1, gt', if_true]
  · intro e1 cu1
    refine br_f (by decide) (bad 1 _ _ _ (by omega) (by omega) ?_)
    simp only [dv_sec, e1]
end
end
section
/-! X: the caches, and producing bytes -/
def dv_CX (N S : Nat) (K : dv_KT) (ni : Int32) (ne sm : Nat → Int32) : Prop :=
  (0 < N → ni = nI (K.2.2 % N)) ∧ (∀ i, i < N → ne i = nI (K.1 i) ∧ K.1 i < 256) ∧ (∀ i, i < 16 * S → sm i = nI (K.2.1 i) ∧ K.2.1 i < 256)
def dv_WX (w : Nat) (g : dv_GT) (wb wk wo : Nat → Int32) : Prop := ∀ j, j < w → wb j = nI (g j).1 ∧ (g j).1 < 256 ∧ wk j = (g j).2.1 ∧ wo j = (g j).2.2
theorem dv_WX_put {w b : Nat} {k o : Int32} {g : dv_GT} {wb wk wo : Nat → Int32} (h : dv_WX w g wb wk wo) (hb : b < 256) :
    dv_WX (w + 1) (dv_put g w b k o) (upd wb w (nI b)) (upd wk w k) (upd wo w o) := fun j hj => by
  unfold dv_put
  by_cases z : j = w
  · subst z
    rw [if_pos rfl, pk_us, pk_us, pk_us]
    exact ⟨rfl, hb, rfl, rfl⟩
  · rw [if_neg z, pk_un z, pk_un z, pk_un z]
    exact h j (by omega)
section
variable {xq0 xq1 xq2 xq3 xq4 xq5 xq6 xtl xdl xnc xsc xts xni xwl xsf xsl xss xws xwn xpn xle xla xbk xbz xba xbg : Int32} {xst xln xok xoo xpz xfh xsh xne xsm xwb xwk xwo xcu xsp xsa xpv xch xpt xpl : Nat → Int32}
theorem dx_rst22 {post : SX → Prop} : ∀ (m n i : Nat) (xsm : Nat → Int32), i + m = 48 → m < n → (∀ j, j < i → xsm j = 0) →
    (∀ xsm', (∀ j, j < 48 → xsm' j = 0) → post (xq0, xq1, xq2, xq3, xq4, xq5, xq6, xtl, xdl, xnc, xsc, xts, 0, xwl, xsf, xsl, xss, xws, xwn, xpn, xle, xla, xbk, xbz, xba, xbg, xst, xln, xok, xoo, xpz, xfh, xsh, xne, xsm', xwb, xwk, xwo, xcu, xsp, xsa, xpv, xch, xpt, xpl)) →
    wX_resetCaches_22 post xq0 xq1 xq2 xq3 xq4 xq5 xq6 xtl xdl xnc xsc xts xni xwl xsf xsl xss xws xwn xpn xle xla xbk xbz xba xbg n (nI i) xst xln xok xoo xpz xfh xsh xne xsm xwb xwk xwo xcu xsp xsa xpv xch xpt xpl := by
  intro m
  induction m with
  | zero =>
    intro n i xsm hi hn hz ok
    obtain ⟨n, rfl⟩ : ∃ m, n = m + 1 := ⟨n - 1, by omega⟩
    obtain rfl : i = 48 := by omega
    exact br_t (nI_le (a := 48) (b := 48) (by omega) (by omega)) (ok _ hz)
  | succ m ih =>
    intro n i xsm hi hn hz ok
    obtain ⟨n, rfl⟩ : ∃ m, n = m + 1 := ⟨n - 1, by omega⟩
    refine br_f (nI_ge (b := 48) (by omega) (by omega)) ⟨vp_in_nI (by omega) (by omega), nm_e (nm_r (nI_1 i) (ih _ _ _ (by omega) (by omega) ?_ ok))⟩
    intro j hj
    rw [nI_clamp (by omega)]
    by_cases z : j = i
    · rw [z, pk_us]
    · rw [pk_un z]; exact hz j (by omega)
theorem dx_rst2 {post : SX → Prop} : ∀ (m n i : Nat) (xne : Nat → Int32), i + m = 4 → m < n → (∀ j, j < i → xne j = 0) →
    (∀ xne' xsm', (∀ j, j < 4 → xne' j = 0) → (∀ j, j < 48 → xsm' j = 0) → post (xq0, xq1, xq2, xq3, xq4, xq5, xq6, xtl, xdl, xnc, xsc, xts, 0, xwl, xsf, xsl, xss, xws, xwn, xpn, xle, xla, xbk, xbz, xba, xbg, xst, xln, xok, xoo, xpz, xfh, xsh, xne', xsm', xwb, xwk, xwo, xcu, xsp, xsa, xpv, xch, xpt, xpl)) →
    wX_resetCaches_2 post xq0 xq1 xq2 xq3 xq4 xq5 xq6 xtl xdl xnc xsc xts xni xwl xsf xsl xss xws xwn xpn xle xla xbk xbz xba xbg n (nI i) xst xln xok xoo xpz xfh xsh xne xsm xwb xwk xwo xcu xsp xsa xpv xch xpt xpl := by
  intro m
  induction m with
  | zero =>
    intro n i xne hi hn hz ok
    obtain ⟨n, rfl⟩ : ∃ m, n = m + 1 := ⟨n - 1, by omega⟩
    obtain rfl : i = 4 := by omega
    exact br_t (nI_le (a := 4) (b := 4) (by omega) (by omega)) ⟨49, dx_rst22 48 49 0 _ rfl (by omega) (fun j hj => absurd hj (Nat.not_lt_zero j)) (fun xsm' h => ok _ _ hz h)⟩
  | succ m ih =>
    intro n i xne hi hn hz ok
    obtain ⟨n, rfl⟩ : ∃ m, n = m + 1 := ⟨n - 1, by omega⟩
    refine br_f (nI_ge (b := 4) (by omega) (by omega)) ⟨vp_in_nI (by omega) (by omega), nm_e (nm_r (nI_1 i) (ih _ _ _ (by omega) (by omega) ?_ ok))⟩
    intro j hj
    rw [nI_clamp (by omega)]
    by_cases z : j = i
    · rw [z, pk_us]
    · rw [pk_un z]; exact hz j (by omega)
theorem dx_rst {post : SX → Prop} {N S : Nat} (hN : N ≤ 4) (hS : S ≤ 3)
    (ok : ∀ xne' xsm', dv_CX N S dv_K0 0 xne' xsm' → post (xq0, xq1, xq2, xq3, xq4, xq5, xq6, xtl, xdl, xnc, xsc, xts, 0, xwl, xsf, xsl, xss, xws, xwn, xpn, xle, xla, xbk, xbz, xba, xbg, xst, xln, xok, xoo, xpz, xfh, xsh, xne', xsm', xwb, xwk, xwo, xcu, xsp, xsa, xpv, xch, xpt, xpl)) : wpX_resetCaches post (xq0, xq1, xq2, xq3, xq4, xq5, xq6, xtl, xdl, xnc, xsc, xts, xni, xwl, xsf, xsl, xss, xws, xwn, xpn, xle, xla, xbk, xbz, xba, xbg, xst, xln, xok, xoo, xpz, xfh, xsh, xne, xsm, xwb, xwk, xwo, xcu, xsp, xsa, xpv, xch, xpt, xpl) := by
  refine ⟨5, dx_rst2 4 5 0 xne rfl (by omega) (fun j hj => absurd hj (Nat.not_lt_zero j)) fun ne' sm' h1 h2 => ok _ _ ⟨fun _ => ?_, fun i hi => ⟨h1 i (by omega), ?_⟩, fun i hi => ⟨h2 i (by omega), ?_⟩⟩⟩
  · show (0 : Int32) = nI (0 % N)
    rw [Nat.zero_mod]
    rfl
  · show 0 < 256
    omega
  · show 0 < 256
    omega
theorem dx_lrn43 {post : SX → Prop} {N S a : Nat} {K : dv_KT} (hS : S ≤ 3) (ha : a < 256)
    {ni : Int32} {ne : Nat → Int32} (c1 : 0 < N → ni = nI ((K.2.2 + 1) % N)) (c2 : ∀ i, i < N → ne i = nI ((if 0 < N then dv_uN K.1 (K.2.2 % N) a else K.1) i) ∧ (if 0 < N then dv_uN K.1 (K.2.2 % N) a else K.1) i < 256)
    (c3 : ∀ i, i < 16 * S → xsm i = nI (K.2.1 i) ∧ K.2.1 i < 256)
    (ok : ∀ xsm', dv_CX N S (dv_lrn N S a K) ni ne xsm' → post (xq0, xq1, xq2, xq3, xq4, xq5, xq6, xtl, xdl, nI N, nI (16 * S), xts, ni, xwl, xsf, xsl, xss, xws, xwn, xpn, xle, xla, xbk, xbz, xba, xbg, xst, xln, xok, xoo, xpz, xfh, xsh, ne, xsm', xwb, xwk, xwo, xcu, xsp, xsa, xpv, xch, xpt, xpl)) :
    wX_learn_43 post (nI a) xq0 xq1 xq2 xq3 xq4 xq5 xq6 xtl xdl (nI N) (nI (16 * S)) xts ni xwl xsf xsl xss xws xwn xpn xle xla xbk xbz xba xbg xst xln xok xoo xpz xfh xsh ne xsm xwb xwk xwo xcu xsp xsa xpv xch xpt xpl := by
  unfold wX_learn_43
  by_cases z : S = 0
  · subst z
    refine br_t (nI_le (b := 0) (by omega) (by omega)) (ok _ ⟨c1, c2, fun i hi => ?_⟩)
    omega
  · refine br_f (nI_ge (a := 0) (by omega) (by omega)) ⟨nI_ne0 (by omega) (by omega), ?_⟩
    rw [pk_rem (by omega) (by omega) (by omega), nI_clamp (Nat.lt_trans (Nat.mod_lt _ (by omega)) (by omega : 16 * S < 2 ^ 31))]
    have hm : a % (16 * S) < 16 * S := Nat.mod_lt _ (by omega)
    refine ⟨vp_in_nI (by omega) (by omega), nm_e (ok _ ⟨c1, c2, fun i hi => ?_⟩)⟩
    show upd xsm _ _ i = nI ((if 0 < S then dv_uN K.2.1 (a % (16 * S)) a else K.2.1) i) ∧ (if 0 < S then dv_uN K.2.1 (a % (16 * S)) a else K.2.1) i < 256
    rw [if_pos (by omega)]
    unfold dv_uN
    by_cases y : i = a % (16 * S)
    · rw [y, pk_us, if_pos rfl]; exact ⟨rfl, ha⟩
    · rw [pk_un y, if_neg y]; exact c3 i hi
theorem dv_ms {n N : Nat} (h0 : 0 < N) : (n % N + 1 < N ∧ (n + 1) % N = n % N + 1) ∨ (¬ n % N + 1 < N ∧ (n + 1) % N = 0) := by
  have hl := Nat.mod_lt n h0
  have e : (n + 1) % N = (n % N + 1) % N := by rw [Nat.mod_add_mod]
  by_cases z : n % N + 1 < N
  · exact Or.inl ⟨z, by rw [e, Nat.mod_eq_of_lt z]⟩
  · exact Or.inr ⟨z, by rw [e, show n % N + 1 = N by omega, Nat.mod_self]⟩
theorem dx_lrn {post : SX → Prop} {N S a : Nat} {K : dv_KT} (hN : N ≤ 4) (hS : S ≤ 3) (ha : a < 256) (h : dv_CX N S K xni xne xsm)
    (ok : ∀ xni' xne' xsm', dv_CX N S (dv_lrn N S a K) xni' xne' xsm' → post (xq0, xq1, xq2, xq3, xq4, xq5, xq6, xtl, xdl, nI N, nI (16 * S), xts, xni', xwl, xsf, xsl, xss, xws, xwn, xpn, xle, xla, xbk, xbz, xba, xbg, xst, xln, xok, xoo, xpz, xfh, xsh, xne', xsm', xwb, xwk, xwo, xcu, xsp, xsa, xpv, xch, xpt, xpl)) :
    wpX_learn post (xq0, xq1, xq2, xq3, xq4, xq5, xq6, xtl, xdl, nI N, nI (16 * S), xts, xni, xwl, xsf, xsl, xss, xws, xwn, xpn, xle, xla, xbk, xbz, xba, xbg, xst, xln, xok, xoo, xpz, xfh, xsh, xne, xsm, xwb, xwk, xwo, xcu, xsp, xsa, xpv, xch, xpt, xpl) (nI a) := by
  obtain ⟨c1, c2, c3⟩ := h
  unfold wpX_learn
  dsimp only
  by_cases z : N = 0
  · subst z
    refine br_t (nI_le (b := 0) (by omega) (by omega)) (dx_lrn43 (N := 0) (K := K) hS ha (fun h => absurd h (by omega)) (fun i hi => absurd hi (by omega)) c3 fun sm' h => ok _ _ _ h)
  · have hm : K.2.2 % N < N := Nat.mod_lt _ (by omega)
    rw [c1 (by omega), nI_clamp (by omega), nI_1]
    have c2' : ∀ i, i < N → upd xne (K.2.2 % N) (nI a) i = nI ((if 0 < N then dv_uN K.1 (K.2.2 % N) a else K.1) i) ∧ (if 0 < N then dv_uN K.1 (K.2.2 % N) a else K.1) i < 256 := by
      intro i hi
      rw [if_pos (by omega)]
      unfold dv_uN
      by_cases y : i = K.2.2 % N
      · rw [y, pk_us, if_pos rfl]; exact ⟨rfl, ha⟩
      · rw [pk_un y, if_neg y]; exact c2 i hi
    refine br_f (nI_ge (a := 0) (by omega) (by omega)) ⟨vp_in_nI (by omega) (by omega), nm_e (nm_e ?_)⟩
    rcases dv_ms (n := K.2.2) (N := N) (by omega) with ⟨y, ey⟩ | ⟨y, ey⟩
    · refine br_t (nI_lt y (by omega)) (dx_lrn43 (K := K) hS ha (fun _ => by rw [ey]) c2' c3 fun sm' h => ok _ _ _ h)
    · refine br_f (nI_nlt (by omega) (by omega)) (dx_lrn43 (K := K) hS ha (fun _ => by rw [ey]; rfl) c2' c3 fun sm' h => ok _ _ _ h)
theorem dx_prod {post : SX → Prop} {w b : Nat} {k o : Int32} {g : dv_GT} (hw : w < 128) (hb : b < 256) (h : dv_WX w g xwb xwk xwo)
    (ok : ∀ wb wk wo, dv_WX (w + 1) (dv_put g w b k o) wb wk wo → post (xq0, xq1, xq2, xq3, xq4, xq5, xq6, xtl, xdl, xnc, xsc, xts, xni, nI (w + 1), xsf, xsl, xss, xws, xwn, xpn, xle, xla, xbk, xbz, xba, xbg, xst, xln, xok, xoo, xpz, xfh, xsh, xne, xsm, wb, wk, wo, xcu, xsp, xsa, xpv, xch, xpt, xpl)) :
    wpX_produce post (xq0, xq1, xq2, xq3, xq4, xq5, xq6, xtl, xdl, xnc, xsc, xts, xni, nI w, xsf, xsl, xss, xws, xwn, xpn, xle, xla, xbk, xbz, xba, xbg, xst, xln, xok, xoo, xpz, xfh, xsh, xne, xsm, xwb, xwk, xwo, xcu, xsp, xsa, xpv, xch, xpt, xpl) (nI b) k o := by
  unfold wpX_produce
  dsimp only
  rw [nI_clamp (by omega)]
  have i : vp_in (nI w) 128 := vp_in_nI hw (by omega)
  exact br_f (nI_ge (b := 128) hw (by omega)) ⟨i, nm_e ⟨i, nm_e ⟨i, nm_e (nm_r (nI_1 w) (ok _ _ _ (dv_WX_put h hb)))⟩⟩⟩
end
end
section
/-! X: ADD, RUN, COPY -/
section
variable {xq0 xq1 xq2 xq3 xq4 xq5 xq6 xtl xdl xnc xsc xts xni xwl xsf xsl xss xws xwn xpn xle xla xbk xbz xba xbg : Int32} {xst xln xok xoo xpz xfh xsh xne xsm xwb xwk xwo xcu xsp xsa xpv xch xpt xpl : Nat → Int32}
theorem dx_add22 {post : Int32 → SX → Prop} {n : Nat} (hn : n ≤ 128) : ∀ (m f k w : Nat) (D : List Nat) (g : dv_GT) (xcu xwb xwk xwo : Nat → Int32), k + m = n → m < f → m ≤ D.length → w + m ≤ 128 →
    dv_PT xst xcu xsp 1 D → dv_WX w g xwb xwk xwo →
    (∀ cu' wb' wk' wo', dv_PT xst cu' xsp 1 (D.drop m) → (∀ q, q ≠ 1 → cu' q = xcu q) → dv_WX (w + m) (dv_add (D.take m) w g) wb' wk' wo' → post 0 (xq0, xq1, xq2, xq3, xq4, xq5, xq6, xtl, xdl, xnc, xsc, xts, xni, nI (w + m), xsf, xsl, xss, xws, xwn, xpn, xle, xla, xbk, xbz, xba, xbg, xst, xln, xok, xoo, xpz, xfh, xsh, xne, xsm, wb', wk', wo', cu', xsp, xsa, xpv, xch, xpt, xpl)) →
    wX_runAdd_22 post (nI n) f (nI k) xq0 xq1 xq2 xq3 xq4 xq5 xq6 xtl xdl xnc xsc xts xni (nI w) xsf xsl xss xws xwn xpn xle xla xbk xbz xba xbg xst xln xok xoo xpz xfh xsh xne xsm xwb xwk xwo xcu xsp xsa xpv xch xpt xpl := by
  intro m
  induction m with
  | zero =>
    intro f k w D g xcu xwb xwk xwo hk hf hm hw hD hW ok
    obtain ⟨f, rfl⟩ : ∃ m, f = m + 1 := ⟨f - 1, by omega⟩
    refine br_t (nI_le (by omega) (by omega)) ?_
    have := ok xcu xwb xwk xwo
    rw [List.drop_zero, List.take_zero] at this
    exact this hD (fun q _ => rfl) hW
  | succ m ih =>
    intro f k w D g xcu xwb xwk xwo hk hf hm hw hD hW ok
    obtain ⟨f, rfl⟩ : ∃ m, f = m + 1 := ⟨f - 1, by omega⟩
    refine br_f (nI_ge (by omega) (by omega)) (dx_next (p := 1) (by omega) hD ?_ ?_)
    · intro e
      subst e
      simp at hm
    · intro b D' x e hb hD'
      subst e
      rw [List.length_cons] at hm
      refine dx_prod (by omega) hb hW fun wb wk wo hW' => nm_r (nI_1 k) (ih _ _ _ _ _ _ _ _ _ (by omega) (by omega) (by omega) (by omega) hD' hW' fun cu' wb' wk' wo' h1 h2 h3 => ?_)
      have := ok cu' wb' wk' wo' h1 (fun q hq => (h2 q hq).trans (pk_un hq))
      rw [show w + (m + 1) = w + 1 + m by omega] at this
      exact this h3
theorem dx_add {post : Int32 → SX → Prop} {n w : Nat} {D : List Nat} {g : dv_GT} (hn : n ≤ 128) (hw : w + n ≤ 128) (hD : dv_PT xst xcu xsp 1 D) (hW : dv_WX w g xwb xwk xwo)
    (ok : n ≤ D.length → ∀ cu' wb' wk' wo', dv_PT xst cu' xsp 1 (D.drop n) → (∀ q, q ≠ 1 → cu' q = xcu q) → dv_WX (w + n) (dv_add (D.take n) w g) wb' wk' wo' → post 0 (xq0, xq1, xq2, xq3, xq4, xq5, xq6, xtl, xdl, xnc, xsc, xts, xni, nI (w + n), xsf, xsl, xss, xws, xwn, xpn, xle, xla, xbk, xbz, xba, xbg, xst, xln, xok, xoo, xpz, xfh, xsh, xne, xsm, wb', wk', wo', cu', xsp, xsa, xpv, xch, xpt, xpl))
    (bad : D.length < n → post 7 (xq0, xq1, xq2, xq3, xq4, xq5, xq6, xtl, xdl, xnc, xsc, xts, xni, nI w, xsf, xsl, xss, xws, xwn, xpn, xle, xla, xbk, xbz, xba, xbg, xst, xln, xok, xoo, xpz, xfh, xsh, xne, xsm, xwb, xwk, xwo, xcu, xsp, xsa, xpv, xch, xpt, xpl)) :
    wpX_runAdd post (xq0, xq1, xq2, xq3, xq4, xq5, xq6, xtl, xdl, xnc, xsc, xts, xni, nI w, xsf, xsl, xss, xws, xwn, xpn, xle, xla, xbk, xbz, xba, xbg, xst, xln, xok, xoo, xpz, xfh, xsh, xne, xsm, xwb, xwk, xwo, xcu, xsp, xsa, xpv, xch, xpt, xpl) (nI n) := by
  unfold wpX_runAdd
  dsimp only
  obtain ⟨d, e1, e2, e3, e4⟩ := id hD
  rw [e1, e2, pk_sub (by omega), show d + D.length - d = D.length by omega]
  exact pk_le n D.length (fun le => ⟨n + 1, dx_add22 hn n (n + 1) 0 w D g _ _ _ _ (by omega) (by omega) le hw hD hW (ok le)⟩) bad
theorem dx_run15 {post : Int32 → SX → Prop} {n b : Nat} (hn : n ≤ 128) (hb : b < 256) : ∀ (m f k w : Nat) (g : dv_GT) (xwb xwk xwo : Nat → Int32), k + m = n → m < f → w + m ≤ 128 →
    dv_WX w g xwb xwk xwo →
    (∀ wb' wk' wo', dv_WX (w + m) (dv_run b m w g) wb' wk' wo' → post 0 (xq0, xq1, xq2, xq3, xq4, xq5, xq6, xtl, xdl, xnc, xsc, xts, xni, nI (w + m), xsf, xsl, xss, xws, xwn, xpn, xle, xla, xbk, xbz, xba, xbg, xst, xln, xok, xoo, xpz, xfh, xsh, xne, xsm, wb', wk', wo', xcu, xsp, xsa, xpv, xch, xpt, xpl)) →
    wX_runRun_15 post (nI n) (nI b) f (nI k) xq0 xq1 xq2 xq3 xq4 xq5 xq6 xtl xdl xnc xsc xts xni (nI w) xsf xsl xss xws xwn xpn xle xla xbk xbz xba xbg xst xln xok xoo xpz xfh xsh xne xsm xwb xwk xwo xcu xsp xsa xpv xch xpt xpl := by
  intro m
  induction m with
  | zero =>
    intro f k w g xwb xwk xwo hk hf hw hW ok
    obtain ⟨f, rfl⟩ : ∃ m, f = m + 1 := ⟨f - 1, by omega⟩
    exact br_t (nI_le (by omega) (by omega)) (ok xwb xwk xwo hW)
  | succ m ih =>
    intro f k w g xwb xwk xwo hk hf hw hW ok
    obtain ⟨f, rfl⟩ : ∃ m, f = m + 1 := ⟨f - 1, by omega⟩
    refine br_f (nI_ge (by omega) (by omega)) (dx_prod (by omega) hb hW fun wb wk wo hW' => nm_r (nI_1 k) (ih _ _ _ _ _ _ _ (by omega) (by omega) (by omega) hW' fun wb' wk' wo' h3 => ?_))
    have := ok wb' wk' wo'
    rw [show w + (m + 1) = w + 1 + m by omega] at this
    exact this h3
theorem dx_run {post : Int32 → SX → Prop} {n w : Nat} {D : List Nat} {g : dv_GT} (hn : n ≤ 128) (hw : w + n ≤ 128) (hD : dv_PT xst xcu xsp 1 D) (hW : dv_WX w g xwb xwk xwo)
    (ok : ∀ b D' cu' wb' wk' wo', D = b :: D' → dv_PT xst cu' xsp 1 D' → (∀ q, q ≠ 1 → cu' q = xcu q) → dv_WX (w + n) (dv_run b n w g) wb' wk' wo' → post 0 (xq0, xq1, xq2, xq3, xq4, xq5, xq6, xtl, xdl, xnc, xsc, xts, xni, nI (w + n), xsf, xsl, xss, xws, xwn, xpn, xle, xla, xbk, xbz, xba, xbg, xst, xln, xok, xoo, xpz, xfh, xsh, xne, xsm, wb', wk', wo', cu', xsp, xsa, xpv, xch, xpt, xpl))
    (bad : D = [] → post 7 (xq0, xq1, xq2, xq3, xq4, xq5, xq6, xtl, xdl, xnc, xsc, xts, xni, nI w, xsf, xsl, xss, xws, xwn, xpn, xle, xla, xbk, xbz, xba, xbg, xst, xln, xok, xoo, xpz, xfh, xsh, xne, xsm, xwb, xwk, xwo, xcu, xsp, xsa, xpv, xch, xpt, xpl)) :
    wpX_runRun post (xq0, xq1, xq2, xq3, xq4, xq5, xq6, xtl, xdl, xnc, xsc, xts, xni, nI w, xsf, xsl, xss, xws, xwn, xpn, xle, xla, xbk, xbz, xba, xbg, xst, xln, xok, xoo, xpz, xfh, xsh, xne, xsm, xwb, xwk, xwo, xcu, xsp, xsa, xpv, xch, xpt, xpl) (nI n) := by
  unfold wpX_runRun
  refine dx_next (p := 1) (by omega) hD (fun e => br_f (by decide) (bad e)) ?_
  intro b D' x e hb hD'
  exact br_t (dv_bx b hb).2.1 ⟨n + 1, dx_run15 hn hb n (n + 1) 0 w g _ _ _ (by omega) (by omega) hw hW fun wb' wk' wo' h => ok b D' _ wb' wk' wo' e hD' (fun q hq => pk_un hq) h⟩
theorem dx_adr104 {post : Int32 → SX → Prop} {a here : Nat} {A : List Nat} (ha : a < 2 ^ 30) (hh : here < 2 ^ 30)
    (ok : dv_chk a here A = .ok (a, A) → a < here → post (nI a) (xq0, xq1, xq2, xq3, xq4, xq5, xq6, xtl, xdl, xnc, xsc, xts, xni, xwl, xsf, xsl, xss, xws, xwn, xpn, xle, xla, xbk, xbz, xba, xbg, xst, xln, xok, xoo, xpz, xfh, xsh, xne, xsm, xwb, xwk, xwo, xcu, xsp, xsa, xpv, xch, xpt, xpl)) (bad : dv_chk a here A = .error 8 → post (-1) (xq0, xq1, xq2, xq3, xq4, xq5, xq6, xtl, xdl, xnc, xsc, xts, xni, xwl, xsf, xsl, xss, xws, xwn, xpn, xle, xla, xbk, xbz, xba, xbg, xst, xln, xok, xoo, xpz, xfh, xsh, xne, xsm, xwb, xwk, xwo, xcu, xsp, xsa, xpv, xch, xpt, xpl)) :
    wX_readAddress_104 post (nI here) (nI a) xq0 xq1 xq2 xq3 xq4 xq5 xq6 xtl xdl xnc xsc xts xni xwl xsf xsl xss xws xwn xpn xle xla xbk xbz xba xbg xst xln xok xoo xpz xfh xsh xne xsm xwb xwk xwo xcu xsp xsa xpv xch xpt xpl := by
  unfold wX_readAddress_104
  refine br_f (nI_pos (by omega)) (pk_lt a here (fun lt => ok ?_ lt) (fun ge => bad ?_))
  · unfold dv_chk; rw [if_pos lt]
  · unfold dv_chk; rw [if_neg (by omega)]
theorem dx_adr {post : Int32 → SX → Prop} {N S mode here : Nat} {K : dv_KT} {A : List Nat} (hN : N ≤ 4) (hS : S ≤ 3) (hm : mode < 2 + N + S) (hh : here ≤ 256)
    (hA : dv_PT xst xcu xsp 3 A) (hK : dv_CX N S K xni xne xsm)
    (ok : ∀ a A' cu', dv_adr N K mode here A = .ok (a, A') → a < here → dv_PT xst cu' xsp 3 A' → (∀ q, q ≠ 3 → cu' q = xcu q) → post (nI a) (xq0, xq1, xq2, xq3, xq4, xq5, xq6, xtl, xdl, nI N, xsc, xts, xni, xwl, xsf, xsl, xss, xws, xwn, xpn, xle, xla, xbk, xbz, xba, xbg, xst, xln, xok, xoo, xpz, xfh, xsh, xne, xsm, xwb, xwk, xwo, cu', xsp, xsa, xpv, xch, xpt, xpl))
    (bad1 : ∀ cu', dv_adr N K mode here A = .error 1 → post (-2) (xq0, xq1, xq2, xq3, xq4, xq5, xq6, xtl, xdl, nI N, xsc, xts, xni, xwl, xsf, xsl, xss, xws, xwn, xpn, xle, xla, xbk, xbz, xba, xbg, xst, xln, xok, xoo, xpz, xfh, xsh, xne, xsm, xwb, xwk, xwo, cu', xsp, xsa, xpv, xch, xpt, xpl))
    (bad8 : ∀ cu', dv_adr N K mode here A = .error 8 → post (-1) (xq0, xq1, xq2, xq3, xq4, xq5, xq6, xtl, xdl, nI N, xsc, xts, xni, xwl, xsf, xsl, xss, xws, xwn, xpn, xle, xla, xbk, xbz, xba, xbg, xst, xln, xok, xoo, xpz, xfh, xsh, xne, xsm, xwb, xwk, xwo, cu', xsp, xsa, xpv, xch, xpt, xpl)) :
    wpX_readAddress post (xq0, xq1, xq2, xq3, xq4, xq5, xq6, xtl, xdl, nI N, xsc, xts, xni, xwl, xsf, xsl, xss, xws, xwn, xpn, xle, xla, xbk, xbz, xba, xbg, xst, xln, xok, xoo, xpz, xfh, xsh, xne, xsm, xwb, xwk, xwo, xcu, xsp, xsa, xpv, xch, xpt, xpl) (nI mode) (nI here) := by
  obtain ⟨c1, c2, c3⟩ := hK
  unfold wpX_readAddress
  refine pk_lt mode (N + 2) (fun lt => ?_) (fun ge => ?_) rfl (nI_add N 2)
  · refine dx_int (p := 3) (by omega) hA ?_ ?_
    · intro v A' cu' e1 b1 hA' hf
      refine br_t (dv_p0 b1) ?_
      refine pk_eq mode 0 (fun m0 => ?_) (fun n0 => ?_)
      · have e : dv_adr N K mode here A = dv_chk v here A' := by subst m0; simp only [dv_adr, lt, if_true, e1]
        rw [e] at ok bad1 bad8
        exact dx_adr104 (A := A') (by omega) (by omega) (fun h1 h2 => ok _ _ _ h1 h2 hA' hf) (bad8 _)
      · refine pk_eq mode 1 (fun m1 => ?_) (fun n1 => ?_)
        · by_cases z : v ≤ here
          · have e : dv_adr N K mode here A = dv_chk (here - v) here A' := by subst m1; simp only [dv_adr, lt, if_true, e1, z, if_false, Nat.one_ne_zero]
            rw [e] at ok bad1 bad8
            refine nm_r (pk_sub z) (dx_adr104 (A := A') (by omega) (by omega) (fun h1 h2 => ok _ _ _ h1 h2 hA' hf) (bad8 _))
          · have e : dv_adr N K mode here A = .error 8 := by subst m1; simp only [dv_adr, lt, if_true, e1, z, if_false, Nat.one_ne_zero]
            refine nm_e ?_
            unfold wX_readAddress_104
            exact br_t (pk_sneg (by omega) (by omega)) (bad8 _ e)
        · rw [show nI mode - 2 = nI (mode - 2) from pk_sub (a := mode) (b := 2) (by omega)]
          obtain ⟨k1, k2⟩ := c2 (mode - 2) (by omega)
          have e : dv_adr N K mode here A = dv_chk (K.1 (mode - 2) + v) here A' := by simp only [dv_adr, lt, if_true, e1, n1, n0, if_false]
          rw [e] at ok bad1 bad8
          refine ⟨vp_in_nI (by omega) (by omega), nm_r (e' := nI (K.1 (mode - 2) + v)) ?_ (dx_adr104 (A := A') (by omega) (by omega) (fun h1 h2 => ok _ _ _ h1 h2 hA' hf) (bad8 _))⟩
          rw [nI_clamp (by omega), k1, nI_add]
    · intro e1 cu'
      refine br_f (by decide) (bad1 _ ?_)
      simp only [dv_adr, lt, if_true, e1]
  · have ge' : ¬ mode < N + 2 := by omega
    refine dx_next (p := 3) (by omega) hA ?_ ?_
    · intro e
      subst e
      refine br_t (by decide) (bad8 _ ?_)
      simp only [dv_adr, ge', if_false]
    · intro b A' x e hb hA'
      subst e
      refine br_f (dv_bx b hb).1 (pk_lt b 16 (fun l16 => ?_) (fun g16 => ?_))
      · rw [pk_sub (a := mode) (b := N) (by omega), show nI (mode - N) - 2 = nI (mode - N - 2) from pk_sub (b := 2) (by omega), show (16 : Int32) = nI 16 from rfl, pk_mul, nI_add]
        have ih : 16 * (mode - N - 2) + b < 16 * S := by omega
        obtain ⟨k1, k2⟩ := c3 _ ih
        rw [nI_clamp (by omega), k1]
        have e : dv_adr N K mode here (b :: A') = dv_chk (K.2.1 (16 * (mode - N - 2) + b)) here A' := by simp only [dv_adr, ge', if_false, l16, if_true]
        rw [e] at ok bad1 bad8
        exact ⟨vp_in_nI (by omega) (by omega), nm_e (dx_adr104 (A := A') (by omega) (by omega) (fun h1 h2 => ok _ _ _ h1 h2 hA' (fun q hq => pk_un hq)) (bad8 _))⟩
      · refine bad8 _ ?_
        simp only [dv_adr, ge', if_false, Nat.not_lt.mpr g16]
end
end
section
/-! X: COPY and one half -/
def dv_SG (Src : List Nat) (sf sg sp ws : Nat) : Prop := (sf = 1 → sp + sg ≤ Src.length) ∧ (sf ≠ 1 → sp + sg ≤ ws) ∧ sf ≤ 2
def dv_RI (N S : Nat) (st sp : Nat → Int32) (H : List Nat) (s : dv_IS) (ni : Int32) (ne sm wb wk wo cu : Nat → Int32) : Prop :=
  dv_PT st cu sp 0 H ∧ dv_PT st cu sp 1 s.1 ∧ dv_PT st cu sp 2 s.2.1 ∧ dv_PT st cu sp 3 s.2.2.1 ∧ dv_WX s.2.2.2.1 s.2.2.2.2.1 wb wk wo ∧ dv_CX N S s.2.2.2.2.2 ni ne sm
section
variable {xq0 xq1 xq2 xq3 xq4 xq5 xq6 xtl xdl xnc xsc xts xni xwl xsf xsl xss xws xwn xpn xle xla xbk xbz xba xbg : Int32} {xst xln xok xoo xpz xfh xsh xne xsm xwb xwk xwo xcu xsp xsa xpv xch xpt xpl : Nat → Int32}
theorem dx_cb68 {post : SX → Prop} {w cell : Nat} {g : dv_GT} (hc : cell < w) (hw : w < 128) (hW : dv_WX w g xwb xwk xwo)
    (ok : ∀ wb wk wo, dv_WX (w + 1) (dv_put g w (g cell).1 3 (g cell).2.2) wb wk wo → post (xq0, xq1, xq2, xq3, xq4, xq5, xq6, xtl, xdl, xnc, xsc, xts, xni, nI (w + 1), xsf, xsl, xss, xws, xwn, xpn, xle, xla, xbk, xbz, xba, xbg, xst, xln, xok, xoo, xpz, xfh, xsh, xne, xsm, wb, wk, wo, xcu, xsp, xsa, xpv, xch, xpt, xpl)) :
    wX_copyByte_68 post (nI cell) xq0 xq1 xq2 xq3 xq4 xq5 xq6 xtl xdl xnc xsc xts xni (nI w) xsf xsl xss xws xwn xpn xle xla xbk xbz xba xbg xst xln xok xoo xpz xfh xsh xne xsm xwb xwk xwo xcu xsp xsa xpv xch xpt xpl := by
  unfold wX_copyByte_68
  obtain ⟨w1, w2, w3, w4⟩ := hW cell hc
  rw [nI_clamp (by omega), w1, w4]
  have i : vp_in (nI cell) 128 := vp_in_nI (by omega) (by omega)
  exact ⟨i, i, dx_prod hw w2 hW ok⟩
theorem dx_cb {post : SX → Prop} {Src : List Nat} {sf sg sp ws w u : Nat} {g : dv_GT} (hG : dv_SG Src sf sg sp ws) (hSl : Src.length ≤ 128) (hS : dv_Seg xst 0 Src) (hws : ws ≤ w) (hw : w < 128) (hu : u < sg + w - ws) (hW : dv_WX w g xwb xwk xwo)
    (ok : ∀ wb wk wo, dv_WX (w + 1) (dv_put g w (dv_src Src sf sg sp ws g u).1 3 (dv_src Src sf sg sp ws g u).2) wb wk wo → post (xq0, xq1, xq2, xq3, xq4, xq5, xq6, xtl, xdl, xnc, xsc, xts, xni, nI (w + 1), nI sf, nI sg, nI sp, nI ws, xwn, xpn, xle, xla, xbk, xbz, xba, xbg, xst, xln, xok, xoo, xpz, xfh, xsh, xne, xsm, wb, wk, wo, xcu, xsp, xsa, xpv, xch, xpt, xpl)) :
    wpX_copyByte post (xq0, xq1, xq2, xq3, xq4, xq5, xq6, xtl, xdl, xnc, xsc, xts, xni, nI w, nI sf, nI sg, nI sp, nI ws, xwn, xpn, xle, xla, xbk, xbz, xba, xbg, xst, xln, xok, xoo, xpz, xfh, xsh, xne, xsm, xwb, xwk, xwo, xcu, xsp, xsa, xpv, xch, xpt, xpl) (nI u) := by
  obtain ⟨g1, g2, g3⟩ := hG
  have hsg : sp + sg ≤ 128 := by
    by_cases z : sf = 1
    · have := g1 z; omega
    · have := g2 z; omega
  unfold wpX_copyByte
  refine pk_le sg u (fun le => ?_) (fun lt => ?_)
  · have e : dv_src Src sf sg sp ws g u = ((g (ws + u - sg)).1, (g (ws + u - sg)).2.2) := by
      unfold dv_src; rw [if_neg (by omega)]
    rw [e] at ok
    unfold wX_copyByte_40
    rw [nI_add, pk_sub (a := ws + u) (b := sg) (by omega)]
    exact br_t (nI_le le (by omega)) (dx_cb68 (by omega) hw hW ok)
  · by_cases z : sf = 1
    · have e : dv_src Src sf sg sp ws g u = (dv_gl Src (sp + u), nI (sp + u)) := by
        unfold dv_src; rw [if_pos lt, if_pos z]
      rw [e] at ok
      have hl := g1 z
      obtain ⟨s1, s2⟩ := hS (sp + u) (by omega)
      refine br_t (by rw [z]; rfl) (nm_r (nI_add sp u) ?_)
      rw [show (0 : Int32) + nI (sp + u) = nI (0 + (sp + u)) from nI_add 0 (sp + u), nI_clamp (by omega), s1]
      exact ⟨vp_in_nI (by omega) (by omega), dx_prod hw s2 hW ok⟩
    · have e : dv_src Src sf sg sp ws g u = ((g (sp + u)).1, (g (sp + u)).2.2) := by
        unfold dv_src; rw [if_pos lt, if_neg z]
      rw [e] at ok
      have hl := g2 z
      refine br_f (fun q => z ((nI_eq (b := 1) (by omega) (by omega)).mp q)) ?_
      unfold wX_copyByte_40
      rw [nI_add sp u]
      exact br_f (nI_ge lt (by omega)) (dx_cb68 (by omega) hw hW ok)
theorem dx_cp49 {post : Int32 → SX → Prop} {Src : List Nat} {sf sg sp ws n a : Nat} (hG : dv_SG Src sf sg sp ws) (hSl : Src.length ≤ 128) (hS : dv_Seg xst 0 Src) (hn : n ≤ 128) (ha : a < 256) :
    ∀ (m f k w : Nat) (g : dv_GT) (xwb xwk xwo : Nat → Int32), k + m = n → m < f → w + m ≤ 128 → ws ≤ w → a + k < sg + w - ws →
    dv_WX w g xwb xwk xwo →
    (∀ wb' wk' wo', dv_WX (w + m) (dv_cpy Src sf sg sp ws m (a + k) w g) wb' wk' wo' → post 0 (xq0, xq1, xq2, xq3, xq4, xq5, xq6, xtl, xdl, xnc, xsc, xts, xni, nI (w + m), nI sf, nI sg, nI sp, nI ws, xwn, xpn, xle, xla, xbk, xbz, xba, xbg, xst, xln, xok, xoo, xpz, xfh, xsh, xne, xsm, wb', wk', wo', xcu, xsp, xsa, xpv, xch, xpt, xpl)) →
    wX_runCopy_49 post (nI n) (nI a) f (nI k) xq0 xq1 xq2 xq3 xq4 xq5 xq6 xtl xdl xnc xsc xts xni (nI w) (nI sf) (nI sg) (nI sp) (nI ws) xwn xpn xle xla xbk xbz xba xbg xst xln xok xoo xpz xfh xsh xne xsm xwb xwk xwo xcu xsp xsa xpv xch xpt xpl := by
  intro m
  induction m with
  | zero =>
    intro f k w g xwb xwk xwo hk hf hw hws hu hW ok
    obtain ⟨f, rfl⟩ : ∃ m, f = m + 1 := ⟨f - 1, by omega⟩
    exact br_t (nI_le (by omega) (by omega)) (ok xwb xwk xwo hW)
  | succ m ih =>
    intro f k w g xwb xwk xwo hk hf hw hws hu hW ok
    obtain ⟨f, rfl⟩ : ∃ m, f = m + 1 := ⟨f - 1, by omega⟩
    refine br_f (nI_ge (by omega) (by omega)) ?_
    rw [nI_add a k]
    refine dx_cb hG hSl hS hws (by omega) hu hW fun wb wk wo hW' => nm_r (nI_1 k) (ih _ _ _ _ _ _ _ (by omega) (by omega) (by omega) (by omega) (by omega) hW' fun wb' wk' wo' h3 => ?_)
    have := ok wb' wk' wo'
    rw [show w + (m + 1) = w + 1 + m by omega] at this
    exact this h3
section
variable {N S tl : Nat} {Src H : List Nat} {sf sg sp ws wl : Nat}
theorem dx_bdy {post : Int32 → SX → Prop} {kind mode n : Nat} {D C A : List Nat} {w : Nat} {g : dv_GT} {K : dv_KT}
    (hN : N ≤ 4) (hS : S ≤ 3) (hG : dv_SG Src sf sg sp ws) (hSl : Src.length ≤ 128) (hSs : dv_Seg xst 0 Src) (hwl : ws + wl ≤ 128) (hws : ws ≤ w) (hww : w ≤ ws + wl)
    (hm : mode < 2 + N + S) (hk : kind < 4) (hn : n < 2097152)
    (R : dv_RI N S xst xsp H (D, C, A, w, g, K) xni xne xsm xwb xwk xwo xcu)
    (ok : ∀ D' C' A' w' g' K' ni ne sm wb wk wo cu, dv_bdy N S Src sf sg sp ws wl kind mode n (D, C, A, w, g, K) = .ok (D', C', A', w', g', K') → ws ≤ w' → w' ≤ ws + wl →
      dv_RI N S xst xsp H (D', C', A', w', g', K') ni ne sm wb wk wo cu → post 0 (xq0, xq1, xq2, xq3, xq4, xq5, xq6, nI tl, xdl, nI N, nI (16 * S), nI (dv_sz N S), ni, nI w', nI sf, nI sg, nI sp, nI ws, nI wl, xpn, xle, xla, xbk, xbz, xba, xbg, xst, xln, xok, xoo, xpz, xfh, xsh, ne, sm, wb, wk, wo, cu, xsp, xsa, xpv, xch, xpt, xpl))
    (bad : ∀ k a ni ne sm wb wk wo cu, 1 ≤ k → k ≤ 10 → dv_bdy N S Src sf sg sp ws wl kind mode n (D, C, A, w, g, K) = .error k → post (nI k) (xq0, xq1, xq2, xq3, xq4, xq5, xq6, nI tl, xdl, nI N, nI (16 * S), nI (dv_sz N S), ni, a, nI sf, nI sg, nI sp, nI ws, nI wl, xpn, xle, xla, xbk, xbz, xba, xbg, xst, xln, xok, xoo, xpz, xfh, xsh, ne, sm, wb, wk, wo, cu, xsp, xsa, xpv, xch, xpt, xpl)) :
    wX_runHalf_33 post (nI kind) (nI n) (nI mode) xq0 xq1 xq2 xq3 xq4 xq5 xq6 (nI tl) xdl (nI N) (nI (16 * S)) (nI (dv_sz N S)) xni (nI w) (nI sf) (nI sg) (nI sp) (nI ws) (nI wl) xpn xle xla xbk xbz xba xbg xst xln xok xoo xpz xfh xsh xne xsm xwb xwk xwo xcu xsp xsa xpv xch xpt xpl := by
  obtain ⟨r0, r1, r2, r3, r4, r5⟩ := id R
  have hsg : sp + sg ≤ 128 := by
    obtain ⟨g1, g2, g3⟩ := hG
    by_cases z : sf = 1
    · have := g1 z; omega
    · have := g2 z; omega
  unfold wX_runHalf_33
  rw [pk_sub hws, nI_add]
  refine pk_le (w - ws + n) wl (fun le => ?_) (fun gt => ?_)
  · have le' : ¬ wl < w - ws + n := by omega
    refine pk_eq kind 1 (fun k1 => ?_) (fun nk1 => ?_)
    · subst k1
      refine dx_add (by omega) (by omega) r1 r4 ?_ ?_
      · intro lD cu' wb' wk' wo' h1 h2 h3
        refine ok (D.drop n) C A (w + n) (dv_add (D.take n) w g) K _ _ _ _ _ _ _ ?_ (by omega) (by omega) ⟨dv_PT_fr r0 (h2 0 (by omega)), h1, dv_PT_fr r2 (h2 2 (by omega)), dv_PT_fr r3 (h2 3 (by omega)), h3, r5⟩
        simp only [dv_bdy, le', if_false, if_true, Nat.not_lt.mpr lD]
      · intro lD
        refine bad 7 _ _ _ _ _ _ _ _ (by omega) (by omega) ?_
        simp only [dv_bdy, le', if_false, if_true, lD]
    · refine pk_eq kind 2 (fun k2 => ?_) (fun nk2 => ?_)
      · subst k2
        refine dx_run (by omega) (by omega) r1 r4 ?_ ?_
        · intro b D' cu' wb' wk' wo' e h1 h2 h3
          subst e
          refine ok D' C A (w + n) (dv_run b n w g) K _ _ _ _ _ _ _ ?_ (by omega) (by omega) ⟨dv_PT_fr r0 (h2 0 (by omega)), h1, dv_PT_fr r2 (h2 2 (by omega)), dv_PT_fr r3 (h2 3 (by omega)), h3, r5⟩
          simp only [dv_bdy, le', if_false, if_true, nk1]
        · intro e
          subst e
          refine bad 7 _ _ _ _ _ _ _ _ (by omega) (by omega) ?_
          simp only [dv_bdy, le', if_false, if_true, nk1]
      · unfold wpX_runCopy
        refine nm_r (e' := nI (sg + w - ws)) (by rw [nI_add, pk_sub (by omega)]) (dx_adr hN hS hm (by omega) r3 r5 ?_ ?_ ?_)
        · intro a A' cu' e lt h1 h2
          have ha : a < 256 := by omega
          refine br_f (fun q => ?_) (br_t (nI_pos' (by omega)) ?_)
          · have := congrArg Int32.toInt q
            rw [nI_toInt (by omega), show (-2 : Int32).toInt = -2 from by decide] at this
            omega
          · refine dx_lrn hN hS ha r5 fun ni ne sm hK => ⟨n + 1, dx_cp49 hG hSl hSs (by omega) ha n (n + 1) 0 w g _ _ _ (by omega) (by omega) (by omega) hws (by omega) r4 fun wb' wk' wo' h3 => ?_⟩
            refine ok D C A' (w + n) (dv_cpy Src sf sg sp ws n a w g) (dv_lrn N S a K) _ _ _ _ _ _ _ ?_ (by omega) (by omega) ⟨dv_PT_fr r0 (h2 0 (by omega)), dv_PT_fr r1 (h2 1 (by omega)), dv_PT_fr r2 (h2 2 (by omega)), h1, h3, hK⟩
            simp only [dv_bdy, le', if_false, nk1, nk2, e, dv_cpl]
        · intro cu' e
          refine br_t rfl (bad 1 _ _ _ _ _ _ _ _ (by omega) (by omega) ?_)
          simp only [dv_bdy, le', if_false, nk1, nk2, e, dv_cpl]
        · intro cu' e
          refine br_f (by decide) (br_f (by decide) (bad 8 _ _ _ _ _ _ _ _ (by omega) (by omega) ?_))
          simp only [dv_bdy, le', if_false, nk1, nk2, e, dv_cpl]
  · refine bad 9 _ _ _ _ _ _ _ _ (by omega) (by omega) ?_
    simp only [dv_bdy, gt, if_true]
theorem dx_hlf {post : Int32 → SX → Prop} {e : Nat} {D C A : List Nat} {w : Nat} {g : dv_GT} {K : dv_KT}
    (hN : N ≤ 4) (hS : S ≤ 3) (hG : dv_SG Src sf sg sp ws) (hSl : Src.length ≤ 128) (hSs : dv_Seg xst 0 Src) (hwl : ws + wl ≤ 128) (hws : ws ≤ w) (hww : w ≤ ws + wl)
    (hm : e / 128 < 2 + N + S) (he : e < 2048)
    (R : dv_RI N S xst xsp H (D, C, A, w, g, K) xni xne xsm xwb xwk xwo xcu)
    (ok : ∀ D' C' A' w' g' K' ni ne sm wb wk wo cu, dv_hlf N S Src sf sg sp ws wl e (D, C, A, w, g, K) = .ok (D', C', A', w', g', K') → ws ≤ w' → w' ≤ ws + wl →
      dv_RI N S xst xsp H (D', C', A', w', g', K') ni ne sm wb wk wo cu → post 0 (xq0, xq1, xq2, xq3, xq4, xq5, xq6, nI tl, xdl, nI N, nI (16 * S), nI (dv_sz N S), ni, nI w', nI sf, nI sg, nI sp, nI ws, nI wl, xpn, xle, xla, xbk, xbz, xba, xbg, xst, xln, xok, xoo, xpz, xfh, xsh, ne, sm, wb, wk, wo, cu, xsp, xsa, xpv, xch, xpt, xpl))
    (bad : ∀ k a ni ne sm wb wk wo cu, 1 ≤ k → k ≤ 10 → dv_hlf N S Src sf sg sp ws wl e (D, C, A, w, g, K) = .error k → post (nI k) (xq0, xq1, xq2, xq3, xq4, xq5, xq6, nI tl, xdl, nI N, nI (16 * S), nI (dv_sz N S), ni, a, nI sf, nI sg, nI sp, nI ws, nI wl, xpn, xle, xla, xbk, xbz, xba, xbg, xst, xln, xok, xoo, xpz, xfh, xsh, ne, sm, wb, wk, wo, cu, xsp, xsa, xpv, xch, xpt, xpl)) :
    wpX_runHalf post (xq0, xq1, xq2, xq3, xq4, xq5, xq6, nI tl, xdl, nI N, nI (16 * S), nI (dv_sz N S), xni, nI w, nI sf, nI sg, nI sp, nI ws, nI wl, xpn, xle, xla, xbk, xbz, xba, xbg, xst, xln, xok, xoo, xpz, xfh, xsh, xne, xsm, xwb, xwk, xwo, xcu, xsp, xsa, xpv, xch, xpt, xpl) (nI e) := by
  unfold wpX_runHalf
  have q1 : nI e &&& 3 = nI (e % 4) := pk_andN (by omega) 2 (by decide)
  have q2 : (nI e >>> ((2 : Int32) &&& 31)) &&& 31 = nI (e / 4 % 32) := by
    rw [pk_shrN (by omega) _ 2 (by decide)]
    exact pk_andN (by omega) 5 (by decide)
  have q3 : nI e >>> ((7 : Int32) &&& 31) = nI (e / 128) := pk_shrN (by omega) _ 7 (by decide)
  refine nm_r q1 (nm_r q2 (nm_r q3 (pk_eq (e / 4 % 32) 0 (fun z => ?_) (fun nz => ?_))))
  · refine dx_int (p := 2) (by omega) R.2.2.1 ?_ ?_
    · intro n C' cu' e1 b1 h1 h2
      refine br_t (dv_p0 b1) ?_
      have ee : dv_hlf N S Src sf sg sp ws wl e (D, C, A, w, g, K) = dv_bdy N S Src sf sg sp ws wl (e % 4) (e / 128) n (D, C', A, w, g, K) := by
        simp only [dv_hlf, z, if_true, e1]
      rw [ee] at ok bad
      obtain ⟨r0, r1, r2, r3, r4, r5⟩ := R
      exact dx_bdy (C := C') hN hS hG hSl hSs hwl hws hww hm (by omega) b1 ⟨dv_PT_fr r0 (h2 0 (by omega)), dv_PT_fr r1 (h2 1 (by omega)), h1, dv_PT_fr r3 (h2 3 (by omega)), r4, r5⟩ ok bad
    · intro e1 cu'
      refine br_f (by decide) (bad 1 _ _ _ _ _ _ _ _ (by omega) (by omega) ?_)
      simp only [dv_hlf, z, if_true, e1]
  · have ee : dv_hlf N S Src sf sg sp ws wl e (D, C, A, w, g, K) = dv_bdy N S Src sf sg sp ws wl (e % 4) (e / 128) (e / 4 % 32) (D, C, A, w, g, K) := by
      simp only [dv_hlf, nz, if_false]
    rw [ee] at ok bad
    exact dx_bdy hN hS hG hSl hSs hwl hws hww hm (by omega) (by omega) R ok bad
end
end
end
section
/-! X: all turns of a window, the window, all windows -/
def dv_TB (N S : Nat) (fh sh : Nat → Int32) : Prop := ∀ o, o < dv_sz N S → fh o = nI (dv_T1 N S o) ∧ sh o = nI (dv_T2 N S o)
theorem dv_seg_ok {sl w : Nat} {H H' : List Nat} {sf sg sp : Nat} (h : dv_seg sl w H = .ok (sf, sg, sp, H')) : (sf = 1 → sp + sg ≤ sl) ∧ (sf ≠ 1 → sp + sg ≤ w) ∧ sf ≤ 2 ∧ H'.length < H.length := by
  cases H with
  | nil => simp [dv_seg] at h
  | cons b H1 =>
    simp only [dv_seg] at h
    by_cases z : 2 < b
    · simp [z] at h
    · by_cases z0 : b = 0
      · simp [z0] at h
        obtain ⟨rfl, rfl, rfl, rfl⟩ := h
        exact ⟨fun _ => by omega, fun _ => by omega, by omega, by simp⟩
      · simp only [z, z0, if_false] at h
        cases e2 : dv_num H1 with
        | none => simp [e2] at h
        | some x =>
          obtain ⟨sg', H2⟩ := x
          simp only [e2] at h
          cases e3 : dv_num H2 with
          | none => simp [e3] at h
          | some x =>
            obtain ⟨sp', H3⟩ := x
            simp only [e3] at h
            by_cases c : sp' + sg' ≤ (if b = 1 then sl else w)
            · rw [if_pos c] at h
              injection h with h
              injection h with h1 h
              injection h with h2 h
              injection h with h3 h4
              subst h1 h2 h3 h4
              have l2 := (dv_num_lt e2).2
              have l3 := (dv_num_lt e3).2
              refine ⟨fun y => by rw [if_pos y] at c; exact c, fun y => by rw [if_neg y] at c; exact c, by omega, by simp only [List.length_cons]; omega⟩
            · rw [if_neg c] at h
              simp at h
theorem dv_sec_ok {tl w wl : Nat} {H D C A H' : List Nat} (h : dv_sec tl w H = .ok (wl, D, C, A, H')) : w + wl ≤ tl ∧ H'.length + D.length + C.length + A.length < H.length := by
  simp only [dv_sec] at h
  cases e1 : dv_num H with
  | none => simp [e1] at h
  | some x =>
    obtain ⟨rest, H1⟩ := x
    simp only [e1] at h
    by_cases c1 : H1.length < rest
    · simp [c1] at h
    · simp only [c1, if_false] at h
      cases e2 : dv_num H1 with
      | none => simp [e2] at h
      | some x =>
        obtain ⟨wl', H2⟩ := x
        simp only [e2] at h
        by_cases c2 : tl < w + wl'
        · simp [c2] at h
        · simp only [c2, if_false] at h
          cases H2 with
          | nil => simp at h
          | cons b H3 =>
            simp only at h
            by_cases c3 : b = 0
            · simp only [c3, if_true] at h
              cases e4 : dv_num H3 with
              | none => simp [e4] at h
              | some x =>
                obtain ⟨x4, H4⟩ := x
                simp only [e4] at h
                cases e5 : dv_num H4 with
                | none => simp [e5] at h
                | some x =>
                  obtain ⟨x5, H5⟩ := x
                  simp only [e5] at h
                  cases e6 : dv_num H5 with
                  | none => simp [e6] at h
                  | some x =>
                    obtain ⟨x6, H6⟩ := x
                    simp only [e6] at h
                    by_cases c4 : H1.length - H6.length + x4 + x5 + x6 = rest
                    · rw [if_pos c4] at h
                      injection h with h
                      injection h with h1 h
                      injection h with h2 h
                      injection h with h3 h
                      injection h with h4 h5
                      subst h1 h2 h3 h4 h5
                      have l1 := (dv_num_lt e1).2
                      have l2 := (dv_num_lt e2).2
                      have l4 := (dv_num_lt e4).2
                      have l5 := (dv_num_lt e5).2
                      have l6 := (dv_num_lt e6).2
                      simp only [List.length_cons] at l2
                      simp only [List.length_take, List.length_drop]
                      omega
                    · rw [if_neg c4] at h
                      simp at h
            · simp [c3] at h
section
variable {xq0 xq1 xq2 xq3 xq4 xq5 xq6 xtl xdl xnc xsc xts xni xwl xsf xsl xss xws xwn xpn xle xla xbk xbz xba xbg : Int32} {xst xln xok xoo xpz xfh xsh xne xsm xwb xwk xwo xcu xsp xsa xpv xch xpt xpl : Nat → Int32}
variable {N S tl : Nat} {Src H : List Nat} {sf sg sp ws wl : Nat}
theorem dx_ri2 {post : Int32 → SX → Prop}
    (hN : N ≤ 4) (hS : S ≤ 3) (hT : dv_TB N S xfh xsh) (hG : dv_SG Src sf sg sp ws) (hSl : Src.length ≤ 128) (hSs : dv_Seg xst 0 Src) (hwl : ws + wl ≤ 128) :
    ∀ (m f t : Nat) (D C A : List Nat) (w : Nat) (g : dv_GT) (K : dv_KT) (xni : Int32) (xne xsm xwb xwk xwo xcu : Nat → Int32), C.length ≤ m → m < f → t + C.length ≤ 512 → ws ≤ w → w ≤ ws + wl →
    dv_RI N S xst xsp H (D, C, A, w, g, K) xni xne xsm xwb xwk xwo xcu →
    (∀ D' C' A' w' g' K' ni ne sm wb wk wo cu, dv_trs N S Src sf sg sp ws wl m (D, C, A, w, g, K) = .ok (D', C', A', w', g', K') → ws ≤ w' → w' ≤ ws + wl →
      dv_RI N S xst xsp H (D', C', A', w', g', K') ni ne sm wb wk wo cu → post 0 (xq0, xq1, xq2, xq3, xq4, xq5, xq6, nI tl, xdl, nI N, nI (16 * S), nI (dv_sz N S), ni, nI w', nI sf, nI sg, nI sp, nI ws, nI wl, xpn, xle, xla, xbk, xbz, xba, xbg, xst, xln, xok, xoo, xpz, xfh, xsh, ne, sm, wb, wk, wo, cu, xsp, xsa, xpv, xch, xpt, xpl)) →
    (∀ k a ni ne sm wb wk wo cu, 1 ≤ k → k ≤ 10 → dv_trs N S Src sf sg sp ws wl m (D, C, A, w, g, K) = .error k → post (nI k) (xq0, xq1, xq2, xq3, xq4, xq5, xq6, nI tl, xdl, nI N, nI (16 * S), nI (dv_sz N S), ni, a, nI sf, nI sg, nI sp, nI ws, nI wl, xpn, xle, xla, xbk, xbz, xba, xbg, xst, xln, xok, xoo, xpz, xfh, xsh, ne, sm, wb, wk, wo, cu, xsp, xsa, xpv, xch, xpt, xpl)) →
    wX_runInstructions_2 post f (nI t) xq0 xq1 xq2 xq3 xq4 xq5 xq6 (nI tl) xdl (nI N) (nI (16 * S)) (nI (dv_sz N S)) xni (nI w) (nI sf) (nI sg) (nI sp) (nI ws) (nI wl) xpn xle xla xbk xbz xba xbg xst xln xok xoo xpz xfh xsh xne xsm xwb xwk xwo xcu xsp xsa xpv xch xpt xpl := by
  have stopL : ∀ (C : List Nat) (xcu : Nat → Int32), C = [] → dv_PT xst xcu xsp 2 C → xsp 2 ≤ xcu 2 := by
    intro C xcu e h
    obtain ⟨d, e1, e2, e3, e4⟩ := h
    subst e
    rw [e1, e2]
    exact nI_le (by simp) (by simp at e3; omega)
  have goL : ∀ (b : Nat) (C : List Nat) (xcu : Nat → Int32), dv_PT xst xcu xsp 2 (b :: C) → ¬ xsp 2 ≤ xcu 2 := by
    intro b C xcu h
    obtain ⟨d, e1, e2, e3, e4⟩ := h
    rw [List.length_cons] at e2 e3
    rw [e1, e2]
    exact nI_ge (by omega) (by omega)
  intro m
  induction m with
  | zero =>
    intro f t D C A w g K xni xne xsm xwb xwk xwo xcu hC hf ht hws hww R ok bad
    obtain ⟨f, rfl⟩ : ∃ m, f = m + 1 := ⟨f - 1, by omega⟩
    have e : C = [] := List.eq_nil_of_length_eq_zero (by omega)
    have fin := ok D C A w g K xni xne xsm xwb xwk xwo xcu rfl hws hww R
    exact pk_le 512 t (fun _ => fin) (fun _ => br_t (stopL C xcu e R.2.2.1) fin)
  | succ m ih =>
    intro f t D C A w g K xni xne xsm xwb xwk xwo xcu hC hf ht hws hww R ok bad
    obtain ⟨f, rfl⟩ : ∃ m, f = m + 1 := ⟨f - 1, by omega⟩
    cases C with
    | nil =>
      have fin := ok D [] A w g K xni xne xsm xwb xwk xwo xcu rfl hws hww R
      exact pk_le 512 t (fun _ => fin) (fun _ => br_t (stopL [] xcu rfl R.2.2.1) fin)
    | cons op C =>
      rw [List.length_cons] at hC ht
      refine br_f (nI_ge (b := 512) (by omega) (by omega)) (br_f (goL op C xcu R.2.2.1) ?_)
      obtain ⟨r0, r1, r2, r3, r4, r5⟩ := R
      refine dx_next (p := 2) (by omega) r2 (fun e => by simp at e) ?_
      intro b C' x e hb h2
      injection e with e1 e2
      subst e1 e2
      have R' : dv_RI N S xst xsp H (D, C, A, w, g, K) xni xne xsm xwb xwk xwo (upd xcu 2 x) := ⟨dv_PT_un r0 (by omega), dv_PT_un r1 (by omega), h2, dv_PT_un r3 (by omega), r4, r5⟩
      have et : dv_trs N S Src sf sg sp ws wl (m + 1) (D, op :: C, A, w, g, K) = match dv_trn N S Src sf sg sp ws wl op (D, C, A, w, g, K) with
        | .error e => .error e
        | .ok s' => dv_trs N S Src sf sg sp ws wl m s' := rfl
      rw [et] at ok bad
      have hsz : dv_sz N S ≤ 256 := by unfold dv_sz; omega
      refine br_f (dv_bx op hb).1 (pk_lt op (dv_sz N S) (fun lt => ?_) (fun ge => ?_))
      · obtain ⟨t1, t2⟩ := hT op lt
        obtain ⟨f1, f2, f3, f4⟩ := dv_T_fact N (by omega) S (by omega) op lt
        have io : vp_in (nI op) 256 := vp_in_nI hb (by omega)
        rw [nI_clamp (by omega), t1]
        refine ⟨io, dx_hlf hN hS hG hSl hSs hwl hws hww f1 f3 R' ?_ ?_⟩
        · intro D' C' A' w' g' K' ni ne sm wb wk wo cu e1 hw1 hw2 R1
          refine br_t rfl ⟨io, pk_eq (dv_T2 N S op) 0 (fun z => ?_) (fun nz => ?_) t2⟩
          · have e3 : dv_trn N S Src sf sg sp ws wl op (D, C, A, w, g, K) = .ok (D', C', A', w', g', K') := by simp only [dv_trn, lt, if_true, e1, z]
            rw [e3] at ok bad
            have lC := dv_hlf_len e1
            refine br_t rfl (nm_r (nI_1 t) (ih _ _ _ _ _ _ _ _ _ _ _ _ _ _ _ (by omega) (by omega) (by omega) hw1 hw2 R1 ok bad))
          · rw [t2]
            refine ⟨io, dx_hlf hN hS hG hSl hSs hwl hw1 hw2 f2 f4 R1 ?_ ?_⟩
            · intro D2 C2 A2 w2 g2 K2 ni2 ne2 sm2 wb2 wk2 wo2 cu2 e2 hw3 hw4 R2
              have e3 : dv_trn N S Src sf sg sp ws wl op (D, C, A, w, g, K) = .ok (D2, C2, A2, w2, g2, K2) := by simp only [dv_trn, lt, if_true, e1, nz, if_false, e2]
              rw [e3] at ok bad
              have lC := dv_hlf_len e1
              have lC2 := dv_hlf_len e2
              refine br_t rfl (nm_r (nI_1 t) (ih _ _ _ _ _ _ _ _ _ _ _ _ _ _ _ (by omega) (by omega) (by omega) hw3 hw4 R2 ok bad))
            · intro k a ni2 ne2 sm2 wb2 wk2 wo2 cu2 h1 h2 e2
              have e3 : dv_trn N S Src sf sg sp ws wl op (D, C, A, w, g, K) = .error k := by simp only [dv_trn, lt, if_true, e1, nz, if_false, e2]
              rw [e3] at bad
              exact br_f (nI_ne0 (by omega) (by omega)) (bad k _ _ _ _ _ _ _ _ h1 h2 rfl)
        · intro k a ni ne sm wb wk wo cu h1 h2 e1
          have e3 : dv_trn N S Src sf sg sp ws wl op (D, C, A, w, g, K) = .error k := by simp only [dv_trn, lt, if_true, e1]
          rw [e3] at bad
          exact br_f (nI_ne0 (by omega) (by omega)) (br_f (nI_ne0 (by omega) (by omega)) (bad k _ _ _ _ _ _ _ _ h1 h2 rfl))
      · have e3 : dv_trn N S Src sf sg sp ws wl op (D, C, A, w, g, K) = .error 6 := by simp only [dv_trn, Nat.not_lt.mpr ge, if_false]
        rw [e3] at bad
        exact bad 6 _ _ _ _ _ _ _ _ (by omega) (by omega) rfl
end
end
section
/-! X: one window, all windows, publish -/
theorem dx_ptle {st cu sp : Nat → Int32} {p : Nat} {L : List Nat} (h : dv_PT st cu sp p L) {A B : Prop} (a : L.length = 0 → A) (b : 0 < L.length → B) : (sp p ≤ cu p → A) ∧ (¬ sp p ≤ cu p → B) := by
  obtain ⟨d, e1, e2, e3, e4⟩ := h
  rw [e1, e2]
  exact pk_le (d + L.length) d (fun q => a (by omega)) (fun q => b (by omega))
section
variable {xq0 xq1 xq2 xq3 xq4 xq5 xq6 xtl xdl xnc xsc xts xni xwl xsf xsl xss xws xwn xpn xle xla xbk xbz xba xbg : Int32} {xst xln xok xoo xpz xfh xsh xne xsm xwb xwk xwo xcu xsp xsa xpv xch xpt xpl : Nat → Int32}
variable {N S tl : Nat} {Src : List Nat}
theorem dx_w100 {post : Int32 → SX → Prop} {x y z : Int32} (h : (x = 0 ∧ y = 0 ∧ z = 0 → post 0 (xq0, xq1, xq2, xq3, xq4, xq5, xq6, xtl, xdl, xnc, xsc, xts, xni, xwl, xsf, xsl, xss, xws, xwn, xpn, xle, xla, xbk, xbz, xba, xbg, xst, xln, xok, xoo, xpz, xfh, xsh, xne, xsm, xwb, xwk, xwo, xcu, xsp, xsa, xpv, xch, xpt, xpl))) (b : ¬ (x = 0 ∧ y = 0 ∧ z = 0) → post 10 (xq0, xq1, xq2, xq3, xq4, xq5, xq6, xtl, xdl, xnc, xsc, xts, xni, xwl, xsf, xsl, xss, xws, xwn, xpn, xle, xla, xbk, xbz, xba, xbg, xst, xln, xok, xoo, xpz, xfh, xsh, xne, xsm, xwb, xwk, xwo, xcu, xsp, xsa, xpv, xch, xpt, xpl)) : wX_decodeWindow_100 post x y z xq0 xq1 xq2 xq3 xq4 xq5 xq6 xtl xdl xnc xsc xts xni xwl xsf xsl xss xws xwn xpn xle xla xbk xbz xba xbg xst xln xok xoo xpz xfh xsh xne xsm xwb xwk xwo xcu xsp xsa xpv xch xpt xpl := by
  unfold wX_decodeWindow_100
  exact br_c (fun h1 => br_c (fun h2 => br_c (fun h3 => h ⟨h1, h2, h3⟩) (fun h3 => b fun q => h3 q.2.2)) (fun h2 => b fun q => h2 q.2.1)) (fun h1 => b fun q => h1 q.1)
theorem dx_w58 {post : Int32 → SX → Prop} {D A : List Nat} {x : Int32} (h1 : dv_PT xst xcu xsp 1 D) (h3 : dv_PT xst xcu xsp 3 A)
    (h : (x = 0 ∧ D.length = 0 ∧ A.length = 0 → post 0 (xq0, xq1, xq2, xq3, xq4, xq5, xq6, xtl, xdl, xnc, xsc, xts, xni, xwl, xsf, xsl, xss, xws, xwn, xpn, xle, xla, xbk, xbz, xba, xbg, xst, xln, xok, xoo, xpz, xfh, xsh, xne, xsm, xwb, xwk, xwo, xcu, xsp, xsa, xpv, xch, xpt, xpl))) (b : ¬ (x = 0 ∧ D.length = 0 ∧ A.length = 0) → post 10 (xq0, xq1, xq2, xq3, xq4, xq5, xq6, xtl, xdl, xnc, xsc, xts, xni, xwl, xsf, xsl, xss, xws, xwn, xpn, xle, xla, xbk, xbz, xba, xbg, xst, xln, xok, xoo, xpz, xfh, xsh, xne, xsm, xwb, xwk, xwo, xcu, xsp, xsa, xpv, xch, xpt, xpl)) : wX_decodeWindow_58 post x xq0 xq1 xq2 xq3 xq4 xq5 xq6 xtl xdl xnc xsc xts xni xwl xsf xsl xss xws xwn xpn xle xla xbk xbz xba xbg xst xln xok xoo xpz xfh xsh xne xsm xwb xwk xwo xcu xsp xsa xpv xch xpt xpl := by
  unfold wX_decodeWindow_58
  refine dx_ptle h1 (fun q1 => ?_) (fun q1 => ?_)
  · unfold wX_decodeWindow_79
    refine dx_ptle h3 (fun q3 => ?_) (fun q3 => ?_)
    · exact dx_w100 (fun q => h ⟨q.1, q1, q3⟩) (fun q => b fun r => q ⟨r.1, rfl, rfl⟩)
    · exact dx_w100 (fun q => absurd q.2.2 (by decide)) (fun q => b fun r => by omega)
  · unfold wX_decodeWindow_79
    refine dx_ptle h3 (fun q3 => ?_) (fun q3 => ?_)
    · exact dx_w100 (fun q => absurd q.2.1 (by decide)) (fun q => b fun r => by omega)
    · exact dx_w100 (fun q => absurd q.2.1 (by decide)) (fun q => b fun r => by omega)
theorem dx_win {post : Int32 → SX → Prop} {H : List Nat} {w : Nat} {g : dv_GT}
    (hN : N ≤ 4) (hS : S ≤ 3) (htl : tl ≤ 128) (hT : dv_TB N S xfh xsh) (hSl : Src.length ≤ 128) (hSs : dv_Seg xst 0 Src) (hln : xln 0 = nI Src.length)
    (hH : dv_PT xst xcu xsp 0 H) (hHl : H.length ≤ 512) (hw : w ≤ tl) (hW : dv_WX w g xwb xwk xwo)
    (ok : ∀ w' g' H' sf sg sp ws wn ni ne sm wb wk wo cu st, dv_win N S tl Src w g H = .ok (w', g', H') → w' ≤ tl → H'.length < H.length → dv_PT xst cu st 0 H' → dv_WX w' g' wb wk wo →
      post 0 (xq0, xq1, xq2, xq3, xq4, xq5, xq6, nI tl, xdl, nI N, nI (16 * S), nI (dv_sz N S), ni, nI w', sf, sg, sp, ws, wn, xpn, xle, xla, xbk, xbz, xba, xbg, xst, xln, xok, xoo, xpz, xfh, xsh, ne, sm, wb, wk, wo, cu, st, xsa, xpv, xch, xpt, xpl))
    (bad : ∀ k a sf sg sp ws wn ni ne sm wb wk wo cu st, 1 ≤ k → k ≤ 10 → dv_win N S tl Src w g H = .error k →
      post (nI k) (xq0, xq1, xq2, xq3, xq4, xq5, xq6, nI tl, xdl, nI N, nI (16 * S), nI (dv_sz N S), ni, a, sf, sg, sp, ws, wn, xpn, xle, xla, xbk, xbz, xba, xbg, xst, xln, xok, xoo, xpz, xfh, xsh, ne, sm, wb, wk, wo, cu, st, xsa, xpv, xch, xpt, xpl)) :
    wpX_decodeWindow post (xq0, xq1, xq2, xq3, xq4, xq5, xq6, nI tl, xdl, nI N, nI (16 * S), nI (dv_sz N S), xni, nI w, xsf, xsl, xss, xws, xwn, xpn, xle, xla, xbk, xbz, xba, xbg, xst, xln, xok, xoo, xpz, xfh, xsh, xne, xsm, xwb, xwk, xwo, xcu, xsp, xsa, xpv, xch, xpt, xpl) := by
  unfold wpX_decodeWindow
  refine dx_seg (by omega) hSl hln hH ?_ ?_
  · intro sf sg sp H1 cu1 e1 hH1
    obtain ⟨s1, s2, s3, s4⟩ := dv_seg_ok e1
    refine br_t rfl (dx_sec (by omega) htl hH1 ?_ ?_)
    · intro wl D C A H2 cu2 sp2 e2 p0 p1 p2 p3 bwl
      obtain ⟨t1, t2⟩ := dv_sec_ok e2
      refine br_t rfl (dx_rst hN hS fun ne sm hK => ?_)
      unfold wpX_runInstructions
      dsimp only
      refine ⟨C.length + 1, dx_ri2 (ws := w) hN hS hT ⟨s1, s2, s3⟩ hSl hSs (by omega) C.length (C.length + 1) 0 D C A w g dv_K0 _ _ _ _ _ _ _ (by omega) (by omega) (by omega) (by omega) (by omega) ⟨p0, p1, p2, p3, hW, hK⟩ ?_ ?_⟩
      · intro D' C' A' w' g' K' ni ne sm wb wk wo cu e3 hw1 hw2 R
        obtain ⟨r0, r1, r2, r3, r4, r5⟩ := R
        refine br_t rfl ?_
        rw [pk_sub hw1]
        have ew : dv_win N S tl Src w g H = dv_fin w wl H2 (D', C', A', w', g', K') := by
          simp only [dv_win, e1, e2, e3]
        refine pk_le wl (w' - w) (fun le => ?_) (fun gt => ?_)
        · refine dx_w58 (D := D') (A := A') r1 r3 (fun q => ?_) (fun q => ?_)
          · refine ok w' g' H2 _ _ _ _ _ _ _ _ _ _ _ _ _ ?_ (by omega) (by omega) r0 r4
            rw [ew]
            simp only [dv_fin, Nat.not_lt.mpr le, if_false, q.2.1, q.2.2, Nat.lt_irrefl]
          · refine bad 10 _ _ _ _ _ _ _ _ _ _ _ _ _ _ (by omega) (by omega) ?_
            rw [ew]
            simp only [dv_fin, Nat.not_lt.mpr le, if_false]
            by_cases y : 0 < D'.length
            · rw [if_pos y]
            · rw [if_neg y]
              by_cases y2 : 0 < A'.length
              · rw [if_pos y2]
              · exact absurd ⟨rfl, by omega, by omega⟩ q
        · refine dx_w58 (D := D') (A := A') r1 r3 (fun q => absurd q.1 (by decide)) (fun q => ?_)
          refine bad 10 _ _ _ _ _ _ _ _ _ _ _ _ _ _ (by omega) (by omega) ?_
          rw [ew]
          simp only [dv_fin, gt, if_true]
      · intro k a ni ne sm wb wk wo cu h1 h2 e3
        refine br_f (nI_ne0 (by omega) (by omega)) (bad k _ _ _ _ _ _ _ _ _ _ _ _ _ _ h1 h2 ?_)
        simp only [dv_win, e1, e2, e3]
    · intro k a cu2 sp2 h1 h2 e2
      refine br_f (nI_ne0 (by omega) (by omega)) (bad k _ _ _ _ _ _ _ _ _ _ _ _ _ _ h1 h2 ?_)
      simp only [dv_win, e1, e2]
  · intro k a b c cu1 h1 h2 e1
    refine br_f (nI_ne0 (by omega) (by omega)) (bad k _ _ _ _ _ _ _ _ _ _ _ _ _ _ h1 h2 ?_)
    simp only [dv_win, e1]
theorem dx_dec38 {post : Int32 → SX → Prop}
    (hN : N ≤ 4) (hS : S ≤ 3) (htl : tl ≤ 128) (hT : dv_TB N S xfh xsh) (hSl : Src.length ≤ 128) (hSs : dv_Seg xst 0 Src) (hln : xln 0 = nI Src.length) :
    ∀ (m f t : Nat) (H : List Nat) (w : Nat) (g : dv_GT) (xsf xsl xss xws xwn xni : Int32) (xne xsm xwb xwk xwo xcu xsp : Nat → Int32), H.length ≤ m → m + 1 < f → t + H.length ≤ 512 → w ≤ tl →
    dv_PT xst xcu xsp 0 H → dv_WX w g xwb xwk xwo →
    (∀ w' g' sf sg sp ws wn ni ne sm wb wk wo cu st, dv_wns N S tl Src m w g H = .ok (w', g') → w' ≤ tl → dv_WX w' g' wb wk wo →
      post 0 (xq0, xq1, xq2, xq3, xq4, xq5, xq6, nI tl, xdl, nI N, nI (16 * S), nI (dv_sz N S), ni, nI w', sf, sg, sp, ws, wn, xpn, xle, xla, xbk, xbz, xba, xbg, xst, xln, xok, xoo, xpz, xfh, xsh, ne, sm, wb, wk, wo, cu, st, xsa, xpv, xch, xpt, xpl)) →
    (∀ k a sf sg sp ws wn ni ne sm wb wk wo cu st, 1 ≤ k → k ≤ 10 → dv_wns N S tl Src m w g H = .error k →
      post (nI k) (xq0, xq1, xq2, xq3, xq4, xq5, xq6, nI tl, xdl, nI N, nI (16 * S), nI (dv_sz N S), ni, a, sf, sg, sp, ws, wn, xpn, xle, xla, xbk, xbz, xba, xbg, xst, xln, xok, xoo, xpz, xfh, xsh, ne, sm, wb, wk, wo, cu, st, xsa, xpv, xch, xpt, xpl)) →
    wX_decode_38 post f 0 (nI t) xq0 xq1 xq2 xq3 xq4 xq5 xq6 (nI tl) xdl (nI N) (nI (16 * S)) (nI (dv_sz N S)) xni (nI w) xsf xsl xss xws xwn xpn xle xla xbk xbz xba xbg xst xln xok xoo xpz xfh xsh xne xsm xwb xwk xwo xcu xsp xsa xpv xch xpt xpl := by
  intro m
  induction m with
  | zero =>
    intro f t H w g xsf xsl xss xws xwn xni xne xsm xwb xwk xwo xcu xsp hH hf ht hw hP hW ok bad
    obtain ⟨f, rfl⟩ : ∃ m, f = m + 1 := ⟨f - 1, by omega⟩
    have fin := ok w g xsf xsl xss xws xwn xni xne xsm xwb xwk xwo xcu xsp rfl hw hW
    exact pk_le 512 t (fun _ => fin) (fun _ => br_t rfl (dx_ptle hP (fun _ => fin) (fun q => absurd q (by omega))))
  | succ m ih =>
    intro f t H w g xsf xsl xss xws xwn xni xne xsm xwb xwk xwo xcu xsp hH hf ht hw hP hW ok bad
    obtain ⟨f, rfl⟩ : ∃ m, f = m + 1 := ⟨f - 1, by omega⟩
    cases H with
    | nil =>
      have fin := ok w g xsf xsl xss xws xwn xni xne xsm xwb xwk xwo xcu xsp rfl hw hW
      exact pk_le 512 t (fun _ => fin) (fun _ => br_t rfl (dx_ptle hP (fun _ => fin) (fun q => absurd q (by simp))))
    | cons b H =>
      rw [List.length_cons] at hH ht
      refine br_f (nI_ge (b := 512) (by omega) (by omega)) (br_t rfl (dx_ptle hP (fun q => absurd q (by simp)) (fun _ => ?_)))
      have et : dv_wns N S tl Src (m + 1) w g (b :: H) = match dv_win N S tl Src w g (b :: H) with
        | .error e => .error e
        | .ok (w', g', H') => dv_wns N S tl Src m w' g' H' := rfl
      rw [et] at ok bad
      refine dx_win hN hS htl hT hSl hSs hln hP (by rw [List.length_cons]; omega) hw hW ?_ ?_
      · intro w' g' H' sf sg sp ws wn ni ne sm wb wk wo cu st e1 hw' hl hP' hW'
        rw [e1] at ok bad
        rw [List.length_cons] at hl
        exact nm_r (nI_1 t) (ih _ _ _ _ _ _ _ _ _ _ _ _ _ _ _ _ _ _ (by omega) (by omega) (by omega) hw' hP' hW' ok bad)
      · intro k a sf sg sp ws wn ni ne sm wb wk wo cu st h1 h2 e1
        rw [e1] at bad
        have fin := bad k a sf sg sp ws wn ni ne sm wb wk wo cu st h1 h2 rfl
        obtain ⟨f, rfl⟩ : ∃ m, f = m + 1 := ⟨f - 1, by omega⟩
        exact nm_r (nI_1 t) (pk_le 512 (t + 1) (fun _ => fin) (fun _ => br_f (nI_ne0 (by omega) (by omega)) fin))
theorem dx_dec {post : Int32 → SX → Prop} {row : Nat} {H : List Nat}
    (hN : N ≤ 4) (hS : S ≤ 3) (htl : tl ≤ 128) (hT : dv_TB N S xfh xsh) (hSl : Src.length ≤ 128) (hSs : dv_Seg xst 0 Src) (hln : xln 0 = nI Src.length)
    (hr : row < 6) (hHl : H.length ≤ 512) (hHn : xln row = nI H.length) (hH : dv_Seg xst (512 * row) H)
    (ok : ∀ w' g' sf sg sp ws wn ni ne sm wb wk wo cu st, dv_dec N S tl Src H = .ok (w', g') → w' ≤ tl → dv_WX w' g' wb wk wo →
      post 0 (xq0, xq1, xq2, xq3, xq4, xq5, xq6, nI tl, xdl, nI N, nI (16 * S), nI (dv_sz N S), ni, nI w', sf, sg, sp, ws, wn, xpn, xle, xla, xbk, xbz, xba, xbg, xst, xln, xok, xoo, xpz, xfh, xsh, ne, sm, wb, wk, wo, cu, st, xsa, xpv, xch, xpt, xpl))
    (bad : ∀ k a sf sg sp ws wn ni ne sm wb wk wo cu st, 1 ≤ k → k ≤ 10 → dv_dec N S tl Src H = .error k →
      post (nI k) (xq0, xq1, xq2, xq3, xq4, xq5, xq6, nI tl, xdl, nI N, nI (16 * S), nI (dv_sz N S), ni, a, sf, sg, sp, ws, wn, xpn, xle, xla, xbk, xbz, xba, xbg, xst, xln, xok, xoo, xpz, xfh, xsh, ne, sm, wb, wk, wo, cu, st, xsa, xpv, xch, xpt, xpl)) :
    wpX_decode post (xq0, xq1, xq2, xq3, xq4, xq5, xq6, nI tl, xdl, nI N, nI (16 * S), nI (dv_sz N S), xni, xwl, xsf, xsl, xss, xws, xwn, xpn, xle, xla, xbk, xbz, xba, xbg, xst, xln, xok, xoo, xpz, xfh, xsh, xne, xsm, xwb, xwk, xwo, xcu, xsp, xsa, xpv, xch, xpt, xpl) (nI row) := by
  unfold wpX_decode
  dsimp only
  have m512 : nI row * 512 = nI (row * 512) := pk_mul row 512
  rw [m512, nI_clamp (by omega), hHn, nI_add]
  refine nm_e ⟨vp_in_nI hr (by omega), nm_e ⟨H.length + 2, ?_⟩⟩
  exact dx_dec38 hN hS htl hT hSl hSs hln H.length (H.length + 2) 0 H 0 dv_g0 _ _ _ _ _ _ _ _ _ _ _ _ _ (by omega) (by omega) (by omega) (by omega)
    ⟨row * 512, rfl, rfl, by omega, by rw [Nat.mul_comm]; exact hH⟩ (fun j hj => absurd hj (Nat.not_lt_zero j)) ok bad
def dv_out (w : Nat) (g : dv_GT) : List Nat := (List.range w).map fun i => (g i).1
theorem dv_out_len (w : Nat) (g : dv_GT) : (dv_out w g).length = w := by unfold dv_out; simp
theorem dv_out_gl {w : Nat} {g : dv_GT} {i : Nat} (h : i < w) : dv_gl (dv_out w g) i = (g i).1 := by
  unfold dv_gl dv_out
  simp [List.getD_eq_getElem?_getD, h]
theorem dx_pub45 {post : SX → Prop} {J : Int32 → (Nat → Int32) → (Nat → Int32) → (Nat → Int32) → (Nat → Int32) → (Nat → Int32) → (Nat → Int32) → (Nat → Int32) → (Nat → Int32) → (Nat → Int32) → (Nat → Int32) → (Nat → Int32) → (Nat → Int32) → (Nat → Int32) → (Nat → Int32) → (Nat → Int32) → (Nat → Int32) → (Nat → Int32) → (Nat → Int32) → (Nat → Int32) → Prop} {x1 z0 : Int32} {i : Nat} (hi : i < 128)
    (ok : ∀ o, (x1 = 0 → o = -1) → (¬ x1 = 0 → o = xwo i) → J (nI (i + 1)) xst xln (upd xok i z0) (upd xoo i o) xpz xfh xsh xne xsm xwb xwk xwo xcu xsp xsa xpv xch xpt xpl) :
    wX_publish_45 post J x1 (nI i) z0 (nI i) xq0 xq1 xq2 xq3 xq4 xq5 xq6 xtl xdl xnc xsc xts xni xwl xsf xsl xss xws xwn xpn xle xla xbk xbz xba xbg xst xln xok xoo xpz xfh xsh xne xsm xwb xwk xwo xcu xsp xsa xpv xch xpt xpl := by
  unfold wX_publish_45
  rw [nI_clamp (by omega)]
  have ii : vp_in (nI i) 128 := vp_in_nI hi (by omega)
  exact ⟨ii, nm_e (br_c (fun z => ⟨ii, nm_e (nm_r (nI_1 i) (ok _ (fun _ => rfl) (fun q => absurd z q)))⟩) (fun z => ⟨ii, ii, nm_e (nm_r (nI_1 i) (ok _ (fun q => absurd q z) (fun _ => rfl)))⟩))⟩
theorem dx_pub2 {post : SX → Prop} {x1 : Int32} {w : Nat} {g : dv_GT} (hw : w ≤ 128) (hW : dv_WX w g xwb xwk xwo) (xst0 : Nat → Int32) :
    ∀ (m f i : Nat) (xst xok xoo : Nat → Int32), i + m = w → m < f →
    (∀ j, j < i → xst (1536 + j) = nI (g j).1 ∧ (x1 = 0 → xok j = 0 ∧ xoo j = -1) ∧ (¬ x1 = 0 → xok j = (g j).2.1 ∧ xoo j = (g j).2.2)) →
    (∀ j, j < 1536 ∨ 1536 + w ≤ j → xst j = xst0 j) →
    (∀ st' ok' oo', (∀ j, j < w → st' (1536 + j) = nI (g j).1 ∧ (x1 = 0 → ok' j = 0 ∧ oo' j = -1) ∧ (¬ x1 = 0 → ok' j = (g j).2.1 ∧ oo' j = (g j).2.2)) →
      (∀ j, j < 1536 ∨ 1536 + w ≤ j → st' j = xst0 j) → post (xq0, xq1, xq2, xq3, xq4, xq5, xq6, xtl, xdl, xnc, xsc, xts, xni, nI w, xsf, xsl, xss, xws, xwn, xpn, xle, xla, xbk, xbz, xba, xbg, st', upd xln 3 (nI w), ok', oo', xpz, xfh, xsh, xne, xsm, xwb, xwk, xwo, xcu, xsp, xsa, xpv, xch, xpt, xpl)) →
    wX_publish_2 post x1 xq0 xq1 xq2 xq3 xq4 xq5 xq6 xtl xdl xnc xsc xts xni (nI w) xsf xsl xss xws xwn xpn xle xla xbk xbz xba xbg f (nI i) xst xln xok xoo xpz xfh xsh xne xsm xwb xwk xwo xcu xsp xsa xpv xch xpt xpl := by
  intro m
  induction m with
  | zero =>
    intro f i xst xok xoo hi hf h1 h2 fin
    obtain ⟨f, rfl⟩ : ∃ m, f = m + 1 := ⟨f - 1, by omega⟩
    obtain rfl : i = w := by omega
    exact br_t (nI_le (by omega) (by omega)) (nm_e (fin xst xok xoo h1 h2))
  | succ m ih =>
    intro f i xst xok xoo hi hf h1 h2 fin
    obtain ⟨f, rfl⟩ : ∃ m, f = m + 1 := ⟨f - 1, by omega⟩
    obtain ⟨w1, w2, w3, w4⟩ := hW i (by omega)
    have ii : vp_in (nI i) 128 := vp_in_nI (by omega) (by omega)
    have e1 : (1536 : Int32) + nI i = nI (1536 + i) := nI_add 1536 i
    refine br_f (nI_ge (by omega) (by omega)) ?_
    rw [e1, nI_clamp (by omega), nI_clamp (by omega), w1]
    have step : ∀ z o, (x1 = 0 → z = 0 ∧ o = -1) → (¬ x1 = 0 → z = (g i).2.1 ∧ o = (g i).2.2) →
        ∀ j, j < i + 1 → upd xst (1536 + i) (nI (g i).1) (1536 + j) = nI (g j).1 ∧ (x1 = 0 → upd xok i z j = 0 ∧ upd xoo i o j = -1) ∧ (¬ x1 = 0 → upd xok i z j = (g j).2.1 ∧ upd xoo i o j = (g j).2.2) := by
      intro z o hz1 hz2 j hj
      by_cases y : j = i
      · subst y
        rw [pk_us, pk_us, pk_us]
        exact ⟨rfl, hz1, hz2⟩
      · rw [pk_un (by omega), pk_un y, pk_un y]
        exact h1 j (by omega)
    have fr : ∀ j, j < 1536 ∨ 1536 + w ≤ j → upd xst (1536 + i) (nI (g i).1) j = xst0 j := by
      intro j hj
      rw [pk_un (by omega)]
      exact h2 j hj
    refine ⟨ii, vp_in_nI (by omega) (by omega), nm_e (br_c (fun z => ?_) (fun z => ⟨ii, ?_⟩))⟩
    · exact dx_pub45 (by omega) fun o o1 o2 => ih _ _ _ _ _ (by omega) (by omega) (step _ _ (fun q => ⟨rfl, o1 q⟩) (fun q => absurd z q)) fr fin
    · exact dx_pub45 (by omega) fun o o1 o2 => ih _ _ _ _ _ (by omega) (by omega) (step _ _ (fun q => absurd q z) (fun q => ⟨w3, (o2 q).trans w4⟩)) fr fin
theorem dx_pub {post : SX → Prop} {x1 : Int32} {w : Nat} {g : dv_GT} (hw : w ≤ 128) (hW : dv_WX w g xwb xwk xwo)
    (fin : ∀ st' ok' oo', dv_Seg st' 1536 (dv_out w g) → (∀ j, j < w → (x1 = 0 → ok' j = 0 ∧ oo' j = -1) ∧ (¬ x1 = 0 → ok' j = (g j).2.1 ∧ oo' j = (g j).2.2)) →
      (∀ j, j < 1536 ∨ 1536 + w ≤ j → st' j = xst j) → post (xq0, xq1, xq2, xq3, xq4, xq5, xq6, xtl, xdl, xnc, xsc, xts, xni, nI w, xsf, xsl, xss, xws, xwn, xpn, xle, xla, xbk, xbz, xba, xbg, st', upd xln 3 (nI w), ok', oo', xpz, xfh, xsh, xne, xsm, xwb, xwk, xwo, xcu, xsp, xsa, xpv, xch, xpt, xpl)) :
    wpX_publish post (xq0, xq1, xq2, xq3, xq4, xq5, xq6, xtl, xdl, xnc, xsc, xts, xni, nI w, xsf, xsl, xss, xws, xwn, xpn, xle, xla, xbk, xbz, xba, xbg, xst, xln, xok, xoo, xpz, xfh, xsh, xne, xsm, xwb, xwk, xwo, xcu, xsp, xsa, xpv, xch, xpt, xpl) x1 := by
  unfold wpX_publish
  dsimp only
  refine ⟨w + 1, dx_pub2 hw hW xst w (w + 1) 0 xst xok xoo (by omega) (by omega) (fun j hj => absurd hj (Nat.not_lt_zero j)) (fun j _ => rfl) fun st' ok' oo' h1 h2 => fin st' ok' oo' (fun i hi => ?_) (fun j hj => (h1 j hj).2) h2⟩
  rw [dv_out_len] at hi
  rw [dv_out_gl hi]
  exact ⟨(h1 i hi).1, (hW i hi).2.1⟩
end
end
section
/-! Y: bytes, numbers -/
def dv_PY (tx cu en : Nat → Int32) (L p : Nat) (D : List Nat) : Prop := ∃ d, cu p = nI d ∧ en p = nI (d + D.length) ∧ d + D.length ≤ L ∧ dv_Seg tx (512 + d) D
theorem dv_PY_fr {tx cu cu' en : Nat → Int32} {L p : Nat} {D : List Nat} (h : dv_PY tx cu en L p D) (e : cu' p = cu p) : dv_PY tx cu' en L p D := by
  obtain ⟨d, h1, h2⟩ := h
  exact ⟨d, e.trans h1, h2⟩
theorem dv_PY_un {tx cu en : Nat → Int32} {L p q : Nat} {x : Int32} {D : List Nat} (h : dv_PY tx cu en L p D) (e : p ≠ q) : dv_PY tx (upd cu q x) en L p D :=
  dv_PY_fr h (pk_un e)
section
variable {ytl ydl ync ysc yrl yin ysl yss yws ywn ylc : Int32} {ytx yln ykd yor ypa ypz yrb yrk yro ycu yen ylr : Nat → Int32}
variable {L : Nat}
theorem dy_at0 {post : Int32 → Prop} {r i n : Nat} {x : Int32} (hr : r < 4) (hl : yln r = nI n) (hn : n ≤ 256) (hi : i < n) (hx : ytx (256 * r + i) = x) (h : post x) : wpY_at post (ytl, ydl, ync, ysc, yrl, yin, ysl, yss, yws, ywn, ylc, ytx, yln, ykd, yor, ypa, ypz, yrb, yrk, yro, ycu, yen, ylr) (nI r) (nI i) := by
  unfold wpY_at
  dsimp only
  have e1 : nI r * 256 + nI i = nI (256 * r + i) := by
    rw [show (256 : Int32) = nI 256 from rfl, pk_mul, nI_add, Nat.mul_comm]
  rw [e1, nI_clamp (by omega), nI_clamp (by omega), hl, hx]
  exact br_f (nI_pos (by omega)) (br_f (nI_nlt (a := 3) (by omega) (by omega)) (br_f (nI_pos (by omega)) ⟨vp_in_nI hr (by omega), br_t (nI_lt hi (by omega)) ⟨vp_in_nI (by omega) (by omega), h⟩⟩))
theorem dy_next {post : Int32 → SY → Prop} {p : Nat} (hp : p < 4) (hL : yln 2 = nI L) (hL2 : L ≤ 256) {D : List Nat} (h : dv_PY ytx ycu yen L p D)
    (h0 : D = [] → post (-1) (ytl, ydl, ync, ysc, yrl, yin, ysl, yss, yws, ywn, ylc, ytx, yln, ykd, yor, ypa, ypz, yrb, yrk, yro, ycu, yen, ylr))
    (h1 : ∀ b D' x, D = b :: D' → b < 256 → dv_PY ytx (upd ycu p x) yen L p D' → post (nI b) (ytl, ydl, ync, ysc, yrl, yin, ysl, yss, yws, ywn, ylc, ytx, yln, ykd, yor, ypa, ypz, yrb, yrk, yro, upd ycu p x, yen, ylr)) :
    wpY_next post (ytl, ydl, ync, ysc, yrl, yin, ysl, yss, yws, ywn, ylc, ytx, yln, ykd, yor, ypa, ypz, yrb, yrk, yro, ycu, yen, ylr) (nI p) := by
  obtain ⟨d, e1, e2, e3, e4⟩ := h
  have i4 : vp_in (nI p) 4 := vp_in_nI hp (by omega)
  unfold wpY_next
  dsimp only
  rw [nI_clamp (dv_b4 hp), e1, e2]
  cases D with
  | nil => exact ⟨i4, i4, br_f (nI_nlt (by simp) (by simp at e3; omega)) (h0 rfl)⟩
  | cons b D' =>
    rw [List.length_cons] at e2 e3
    obtain ⟨s1, s2⟩ := dv_Seg_hd e4
    refine ⟨i4, i4, br_t (nI_lt (by simp) (by simp; omega)) ⟨i4, i4, nm_e ⟨i4, ?_⟩⟩⟩
    rw [pk_us, nI_1, nI_pred]
    exact dy_at0 (r := 2) (i := d) (by omega) hL hL2 (by omega) s1 (h1 b D' _ rfl s2 ⟨d + 1, pk_us, by rw [e2]; exact congrArg nI (by omega), by omega, dv_Seg_tl e4⟩)
theorem dy_int4 {post : Int32 → SY → Prop} {p : Nat} (hp : p < 4) (hL : yln 2 = nI L) (hL2 : L ≤ 256) : ∀ (k v t n : Nat) (D : List Nat) (ycu : Nat → Int32), k + t = 3 → k < n → v < 128 ^ t → dv_PY ytx ycu yen L p D →
    (∀ r D' ycu', dv_nu k v D = some (r, D') → dv_PY ytx ycu' yen L p D' → (∀ q, q ≠ p → ycu' q = ycu q) → post (nI r) (ytl, ydl, ync, ysc, yrl, yin, ysl, yss, yws, ywn, ylc, ytx, yln, ykd, yor, ypa, ypz, yrb, yrk, yro, ycu', yen, ylr)) →
    (dv_nu k v D = none → ∀ ycu', post (-1) (ytl, ydl, ync, ysc, yrl, yin, ysl, yss, yws, ywn, ylc, ytx, yln, ykd, yor, ypa, ypz, yrb, yrk, yro, ycu', yen, ylr)) →
    wY_number_4 post (nI p) n (nI v) (nI t) ytl ydl ync ysc yrl yin ysl yss yws ywn ylc ytx yln ykd yor ypa ypz yrb yrk yro ycu yen ylr := by
  intro k
  induction k with
  | zero =>
    intro v t n D ycu ht hn hv hD ok bad
    obtain ⟨n, rfl⟩ : ∃ m, n = m + 1 := ⟨n - 1, by omega⟩
    obtain rfl : t = 3 := by omega
    exact br_t (nI_le (a := 3) (b := 3) (by omega) (by omega)) (bad rfl ycu)
  | succ k ih =>
    intro v t n D ycu ht hn hv hD ok bad
    obtain ⟨n, rfl⟩ : ∃ m, n = m + 1 := ⟨n - 1, by omega⟩
    have hv3 : 128 ^ t ≤ 16384 := by
      have : t = 0 ∨ t = 1 ∨ t = 2 := by omega
      rcases this with rfl | rfl | rfl <;> decide
    refine br_f (nI_ge (b := 3) (by omega) (by omega)) (dy_next hp hL hL2 hD ?_ ?_)
    · intro e
      subst e
      exact br_f (by decide) (bad rfl _)
    · intro b D' x e hb hD'
      subst e
      obtain ⟨c1, c2, c3, c4⟩ := dv_bx b hb
      refine br_t c2 (nm_r (e' := nI (v * 128 + b % 128)) ?_ ?_)
      · rw [c4, show (128 : Int32) = nI 128 from rfl, pk_mul, nI_add]
      · by_cases z : b < 128
        · refine br_f (by rw [c3]; omega) (ok _ _ _ ?_ hD' fun q hq => pk_un hq)
          show (if b < 128 then _ else _) = _
          rw [if_pos z]
        · have e1 : dv_nu (k + 1) v (b :: D') = dv_nu k (v * 128 + b % 128) D' := by
            show (if b < 128 then _ else _) = _
            rw [if_neg z]
          rw [e1] at ok bad
          refine br_t (by rw [c3]; omega) (nm_r (nI_1 t) (ih _ _ _ _ _ (by omega) (by omega) ?_ hD' ?_ bad))
          · rw [Nat.pow_succ]; omega
          · intro r R ycu' h1 h2 h3
            exact ok r R ycu' h1 h2 fun q hq => (h3 q hq).trans (pk_un hq)
theorem dy_int {post : Int32 → SY → Prop} {p : Nat} (hp : p < 4) (hL : yln 2 = nI L) (hL2 : L ≤ 256) {D : List Nat} (h : dv_PY ytx ycu yen L p D)
    (ok : ∀ r D' ycu', dv_num D = some (r, D') → r < 2097152 → dv_PY ytx ycu' yen L p D' → (∀ q, q ≠ p → ycu' q = ycu q) → post (nI r) (ytl, ydl, ync, ysc, yrl, yin, ysl, yss, yws, ywn, ylc, ytx, yln, ykd, yor, ypa, ypz, yrb, yrk, yro, ycu', yen, ylr))
    (bad : dv_num D = none → ∀ ycu', post (-1) (ytl, ydl, ync, ysc, yrl, yin, ysl, yss, yws, ywn, ylc, ytx, yln, ykd, yor, ypa, ypz, yrb, yrk, yro, ycu', yen, ylr)) :
    wpY_number post (ytl, ydl, ync, ysc, yrl, yin, ysl, yss, yws, ywn, ylc, ytx, yln, ykd, yor, ypa, ypz, yrb, yrk, yro, ycu, yen, ylr) (nI p) :=
  ⟨4, dy_int4 hp hL hL2 3 0 0 4 D ycu rfl (by omega) (by omega) h (fun r D' ycu' h1 => ok r D' ycu' h1 (dv_num_lt h1).1) bad⟩
theorem dy_put {post : SY → Prop} {w b : Nat} {k o : Int32} {g : dv_GT} (hw : w < 128) (hb : b < 256) (h : dv_WX w g yrb yrk yro)
    (ok : ∀ wb wk wo, dv_WX (w + 1) (dv_put g w b k o) wb wk wo → post (ytl, ydl, ync, ysc, nI (w + 1), yin, ysl, yss, yws, ywn, ylc, ytx, yln, ykd, yor, ypa, ypz, wb, wk, wo, ycu, yen, ylr)) :
    wpY_put post (ytl, ydl, ync, ysc, nI w, yin, ysl, yss, yws, ywn, ylc, ytx, yln, ykd, yor, ypa, ypz, yrb, yrk, yro, ycu, yen, ylr) (nI b) k o := by
  unfold wpY_put
  dsimp only
  rw [nI_clamp (by omega)]
  have i : vp_in (nI w) 128 := vp_in_nI hw (by omega)
  exact br_t (nI_lt (b := 128) hw (by omega)) ⟨i, nm_e ⟨i, nm_e ⟨i, nm_e (nm_r (nI_1 w) (ok _ _ _ (dv_WX_put h hb)))⟩⟩⟩
end
/-! Y: the learned addresses against the caches -/
def dv_nF (f : Nat → Nat) (N i : Nat) : Nat → Nat
  | 0 => 0
  | k + 1 => if k % N = i then f k else dv_nF f N i k
def dv_sF (f : Nat → Nat) (M i : Nat) : Nat → Nat
  | 0 => 0
  | k + 1 => if f k % M = i then f k else dv_sF f M i k
theorem dv_nF_c {f f' : Nat → Nat} {N i : Nat} : ∀ {n : Nat}, (∀ k, k < n → f' k = f k) → dv_nF f' N i n = dv_nF f N i n
  | 0, _ => rfl
  | n + 1, h => by
    simp only [dv_nF]
    rw [h n (by omega), dv_nF_c fun k hk => h k (by omega)]
theorem dv_sF_c {f f' : Nat → Nat} {N i : Nat} : ∀ {n : Nat}, (∀ k, k < n → f' k = f k) → dv_sF f' N i n = dv_sF f N i n
  | 0, _ => rfl
  | n + 1, h => by
    simp only [dv_sF]
    rw [h n (by omega), dv_sF_c fun k hk => h k (by omega)]
theorem dv_nF_b {f : Nat → Nat} {N i : Nat} : ∀ {n : Nat}, (∀ k, k < n → f k < 256) → dv_nF f N i n < 256
  | 0, _ => by simp only [dv_nF]; omega
  | n + 1, h => by
    simp only [dv_nF]
    by_cases z : n % N = i
    · rw [if_pos z]; exact h n (by omega)
    · rw [if_neg z]; exact dv_nF_b fun k hk => h k (by omega)
theorem dv_sF_b {f : Nat → Nat} {N i : Nat} : ∀ {n : Nat}, (∀ k, k < n → f k < 256) → dv_sF f N i n < 256
  | 0, _ => by simp only [dv_sF]; omega
  | n + 1, h => by
    simp only [dv_sF]
    by_cases z : f n % N = i
    · rw [if_pos z]; exact h n (by omega)
    · rw [if_neg z]; exact dv_sF_b fun k hk => h k (by omega)
def dv_CY (N S : Nat) (K : dv_KT) (lc : Int32) (lr : Nat → Int32) : Prop :=
  lc = nI K.2.2 ∧ ∃ f : Nat → Nat, (∀ k, k < K.2.2 → lr k = nI (f k) ∧ f k < 256) ∧ (∀ i, i < N → dv_nF f N i K.2.2 = K.1 i) ∧ (∀ i, i < 16 * S → dv_sF f (16 * S) i K.2.2 = K.2.1 i)
theorem dv_CY_0 {N S : Nat} {lr : Nat → Int32} : dv_CY N S dv_K0 0 lr := ⟨rfl, fun _ => 0, fun k hk => absurd hk (Nat.not_lt_zero k), fun _ _ => rfl, fun _ _ => rfl⟩
theorem dv_CY_l {N S a : Nat} {K : dv_KT} {lr : Nat → Int32} (ha : a < 256) (h : dv_CY N S K (nI K.2.2) lr) : dv_CY N S (dv_lrn N S a K) (nI (K.2.2 + 1)) (upd lr K.2.2 (nI a)) := by
  obtain ⟨_, f, h1, h2, h3⟩ := h
  have c : ∀ k, k < K.2.2 → dv_uN f K.2.2 a k = f k := fun k hk => if_neg (by omega)
  have cn : dv_uN f K.2.2 a K.2.2 = a := if_pos rfl
  refine ⟨rfl, dv_uN f K.2.2 a, ?_, ?_, ?_⟩
  · intro k hk
    by_cases z : k = K.2.2
    · rw [z, cn, pk_us]; exact ⟨rfl, ha⟩
    · have : k < K.2.2 := by
        have : k < K.2.2 + 1 := hk
        omega
      rw [c k this, pk_un z]; exact h1 k this
  · intro i hi
    show (if K.2.2 % N = i then dv_uN f K.2.2 a K.2.2 else dv_nF (dv_uN f K.2.2 a) N i K.2.2) = (if 0 < N then dv_uN K.1 (K.2.2 % N) a else K.1) i
    rw [if_pos (show 0 < N by omega), cn, dv_nF_c c, h2 i hi]
    unfold dv_uN
    by_cases z : K.2.2 % N = i
    · rw [if_pos z, if_pos z.symm]
    · rw [if_neg z, if_neg fun q => z q.symm]
  · intro i hi
    show (if dv_uN f K.2.2 a K.2.2 % (16 * S) = i then dv_uN f K.2.2 a K.2.2 else dv_sF (dv_uN f K.2.2 a) (16 * S) i K.2.2) = (if 0 < S then dv_uN K.2.1 (a % (16 * S)) a else K.2.1) i
    rw [if_pos (by omega : 0 < S), cn, dv_sF_c c, h3 i hi]
    unfold dv_uN
    by_cases z : a % (16 * S) = i
    · rw [if_pos z, if_pos z.symm]
    · rw [if_neg z, if_neg fun q => z q.symm]
section
variable {ytl ydl ync ysc yrl yin ysl yss yws ywn ylc : Int32} {ytx yln ykd yor ypa ypz yrb yrk yro ycu yen ylr : Nat → Int32}
theorem dy_near {post : Int32 → Prop} {N S i : Nat} {K : dv_KT} (hi : i < N) (hN : N ≤ 4) (hn : K.2.2 ≤ 256) (h : dv_CY N S K ylc ylr) (ok : K.1 i < 256 → post (nI (K.1 i))) : wpY_nearCell post (ytl, ydl, nI N, ysc, yrl, yin, ysl, yss, yws, ywn, ylc, ytx, yln, ykd, yor, ypa, ypz, yrb, yrk, yro, ycu, yen, ylr) (nI i) := by
  obtain ⟨h0, f, h1, h2, h3⟩ := h
  have loop : ∀ m k n : Nat, k + m = K.2.2 → m < n → wY_nearCell_14 post (nI i) ytl ydl (nI N) ysc yrl yin ysl yss yws ywn ylc ytx yln ykd yor ypa ypz yrb yrk yro ycu yen ylr n (nI (dv_nF f N i k)) (nI k) := by
    intro m
    induction m with
    | zero =>
      intro k n hk hf
      obtain ⟨n, rfl⟩ : ∃ m, n = m + 1 := ⟨n - 1, by omega⟩
      obtain rfl : k = K.2.2 := by omega
      refine br_t (by rw [h0]; exact nI_le (by omega) (by omega)) ?_
      rw [h2 i hi]
      refine ok ?_
      rw [← h2 i hi]
      exact dv_nF_b fun k hk => (h1 k hk).2
    | succ m ih =>
      intro k n hk hf
      obtain ⟨n, rfl⟩ : ∃ m, n = m + 1 := ⟨n - 1, by omega⟩
      refine br_f (by rw [h0]; exact nI_ge (by omega) (by omega)) ⟨nI_ne0 (by omega) (by omega), ?_⟩
      rw [pk_rem (by omega) (by omega) (by omega), nI_clamp (by omega)]
      have hm : k % N < N := Nat.mod_lt _ (by omega)
      have nx := ih (k + 1) n (by omega) (by omega)
      simp only [dv_nF] at nx
      refine pk_eq (k % N) i (fun z => ⟨vp_in_nI (by omega) (by omega), nm_r (h1 k (by omega)).1 (nm_r (nI_1 k) ?_)⟩) (fun z => nm_r (nI_1 k) ?_)
      · rw [if_pos z] at nx; exact nx
      · rw [if_neg z] at nx; exact nx
  exact br_t (nI_le (a := 1) (by omega) (by omega)) ⟨K.2.2 + 1, loop K.2.2 0 _ (by omega) (by omega)⟩
theorem dy_same {post : Int32 → Prop} {N S i : Nat} {K : dv_KT} (hi : i < 16 * S) (hS : S ≤ 3) (hn : K.2.2 ≤ 256) (h : dv_CY N S K ylc ylr) (ok : K.2.1 i < 256 → post (nI (K.2.1 i))) : wpY_sameCell post (ytl, ydl, ync, nI S, yrl, yin, ysl, yss, yws, ywn, ylc, ytx, yln, ykd, yor, ypa, ypz, yrb, yrk, yro, ycu, yen, ylr) (nI i) := by
  obtain ⟨h0, f, h1, h2, h3⟩ := h
  have loop : ∀ m k n : Nat, k + m = K.2.2 → m < n → wY_sameCell_14 post (nI i) ytl ydl ync (nI S) yrl yin ysl yss yws ywn ylc ytx yln ykd yor ypa ypz yrb yrk yro ycu yen ylr n (nI (dv_sF f (16 * S) i k)) (nI k) := by
    intro m
    induction m with
    | zero =>
      intro k n hk hf
      obtain ⟨n, rfl⟩ : ∃ m, n = m + 1 := ⟨n - 1, by omega⟩
      obtain rfl : k = K.2.2 := by omega
      refine br_t (by rw [h0]; exact nI_le (by omega) (by omega)) ?_
      rw [h3 i hi]
      refine ok ?_
      rw [← h3 i hi]
      exact dv_sF_b fun k hk => (h1 k hk).2
    | succ m ih =>
      intro k n hk hf
      obtain ⟨n, rfl⟩ : ∃ m, n = m + 1 := ⟨n - 1, by omega⟩
      obtain ⟨f1, f2⟩ := h1 k (by omega)
      refine br_f (by rw [h0]; exact nI_ge (by omega) (by omega)) ⟨vp_in_nI (by omega) (by omega), ?_⟩
      rw [show (16 : Int32) * nI S = nI (16 * S) from pk_mul 16 S, nI_clamp (by omega), f1, pk_rem (by omega) (by omega) (by omega)]
      have hm : f k % (16 * S) < 16 * S := Nat.mod_lt _ (by omega)
      have nx := ih (k + 1) n (by omega) (by omega)
      simp only [dv_sF] at nx
      refine ⟨nI_ne0 (by omega) (by omega), pk_eq (f k % (16 * S)) i (fun z => ⟨vp_in_nI (by omega) (by omega), nm_e (nm_r (nI_1 k) ?_)⟩) (fun z => nm_r (nI_1 k) ?_)⟩
      · rw [if_pos z] at nx; exact nx
      · rw [if_neg z] at nx; exact nx
  exact br_t (nI_le (a := 1) (by omega) (by omega)) ⟨K.2.2 + 1, loop K.2.2 0 _ (by omega) (by omega)⟩
end
end
section
/-! Y: one half -/
def dv_RY (N S L : Nat) (tx en : Nat → Int32) (s : dv_IS) (lc : Int32) (rb rk ro cu lr : Nat → Int32) : Prop :=
  dv_PY tx cu en L 1 s.1 ∧ dv_PY tx cu en L 2 s.2.1 ∧ dv_PY tx cu en L 3 s.2.2.1 ∧ dv_WX s.2.2.2.1 s.2.2.2.2.1 rb rk ro ∧ dv_CY N S s.2.2.2.2.2 lc lr ∧ s.2.2.1.length + s.2.2.2.2.2.2.2 ≤ 255
section
variable {ytl ydl ync ysc yrl yin ysl yss yws ywn ylc : Int32} {ytx yln ykd yor ypa ypz yrb yrk yro ycu yen ylr : Nat → Int32}
variable {L : Nat}
theorem dy_add82 {post : Int32 → SY → Prop} {n : Nat} (hL : yln 2 = nI L) (hL2 : L ≤ 256) (hn : n ≤ 128) : ∀ (m f k w : Nat) (D : List Nat) (g : dv_GT) (ycu yrb yrk yro : Nat → Int32), k + m = n → m < f → m ≤ D.length → w + m ≤ 128 →
    dv_PY ytx ycu yen L 1 D → dv_WX w g yrb yrk yro →
    (∀ cu' wb' wk' wo', dv_PY ytx cu' yen L 1 (D.drop m) → (∀ q, q ≠ 1 → cu' q = ycu q) → dv_WX (w + m) (dv_add (D.take m) w g) wb' wk' wo' → post 0 (ytl, ydl, ync, ysc, nI (w + m), yin, ysl, yss, yws, ywn, ylc, ytx, yln, ykd, yor, ypa, ypz, wb', wk', wo', cu', yen, ylr)) →
    wY_instruction_82 post (nI n) f (nI k) ytl ydl ync ysc (nI w) yin ysl yss yws ywn ylc ytx yln ykd yor ypa ypz yrb yrk yro ycu yen ylr := by
  intro m
  induction m with
  | zero =>
    intro f k w D g ycu yrb yrk yro hk hf hm hw hD hW ok
    obtain ⟨f, rfl⟩ : ∃ m, f = m + 1 := ⟨f - 1, by omega⟩
    refine br_t (nI_le (by omega) (by omega)) ?_
    have := ok ycu yrb yrk yro
    rw [List.drop_zero, List.take_zero] at this
    exact this hD (fun q _ => rfl) hW
  | succ m ih =>
    intro f k w D g ycu yrb yrk yro hk hf hm hw hD hW ok
    obtain ⟨f, rfl⟩ : ∃ m, f = m + 1 := ⟨f - 1, by omega⟩
    refine br_f (nI_ge (by omega) (by omega)) (dy_next (p := 1) (by omega) hL hL2 hD ?_ ?_)
    · intro e
      subst e
      simp at hm
    · intro b D' x e hb hD'
      subst e
      rw [List.length_cons] at hm
      refine dy_put (by omega) hb hW fun wb wk wo hW' => nm_r (nI_1 k) (ih _ _ _ _ _ _ _ _ _ (by omega) (by omega) (by omega) (by omega) hD' hW' fun cu' wb' wk' wo' h1 h2 h3 => ?_)
      have := ok cu' wb' wk' wo' h1 (fun q hq => (h2 q hq).trans (pk_un hq))
      rw [show w + (m + 1) = w + 1 + m by omega] at this
      exact this h3
theorem dy_run134 {post : Int32 → SY → Prop} {n b : Nat} (hn : n ≤ 128) (hb : b < 256) : ∀ (m f k w : Nat) (g : dv_GT) (yrb yrk yro : Nat → Int32), k + m = n → m < f → w + m ≤ 128 →
    dv_WX w g yrb yrk yro →
    (∀ wb' wk' wo', dv_WX (w + m) (dv_run b m w g) wb' wk' wo' → post 0 (ytl, ydl, ync, ysc, nI (w + m), yin, ysl, yss, yws, ywn, ylc, ytx, yln, ykd, yor, ypa, ypz, wb', wk', wo', ycu, yen, ylr)) →
    wY_instruction_134 post (nI n) (nI b) f (nI k) ytl ydl ync ysc (nI w) yin ysl yss yws ywn ylc ytx yln ykd yor ypa ypz yrb yrk yro ycu yen ylr := by
  intro m
  induction m with
  | zero =>
    intro f k w g yrb yrk yro hk hf hw hW ok
    obtain ⟨f, rfl⟩ : ∃ m, f = m + 1 := ⟨f - 1, by omega⟩
    exact br_t (nI_le (by omega) (by omega)) (ok yrb yrk yro hW)
  | succ m ih =>
    intro f k w g yrb yrk yro hk hf hw hW ok
    obtain ⟨f, rfl⟩ : ∃ m, f = m + 1 := ⟨f - 1, by omega⟩
    refine br_f (nI_ge (by omega) (by omega)) (dy_put (by omega) hb hW fun wb wk wo hW' => nm_r (nI_1 k) (ih _ _ _ _ _ _ _ (by omega) (by omega) (by omega) hW' fun wb' wk' wo' h3 => ?_))
    have := ok wb' wk' wo'
    rw [show w + (m + 1) = w + 1 + m by omega] at this
    exact this h3
theorem dy_cp336 {post : Int32 → SY → Prop} {Src : List Nat} {sf sg sp ws n a : Nat} (hG : dv_SG Src sf sg sp ws) (hSl : Src.length ≤ 128) (hln : yln 0 = nI Src.length) (hS : dv_Seg ytx 0 Src) (hn : n ≤ 128) (ha : a < 256) :
    ∀ (m f k w : Nat) (g : dv_GT) (yrb yrk yro : Nat → Int32), k + m = n → m < f → w + m ≤ 128 → ws ≤ w → a + k < sg + w - ws →
    dv_WX w g yrb yrk yro →
    (∀ wb' wk' wo', dv_WX (w + m) (dv_cpy Src sf sg sp ws m (a + k) w g) wb' wk' wo' → post 0 (ytl, ydl, ync, ysc, nI (w + m), nI sf, nI sg, nI sp, nI ws, ywn, ylc, ytx, yln, ykd, yor, ypa, ypz, wb', wk', wo', ycu, yen, ylr)) →
    wY_instruction_336 post (nI n) (nI a) f (nI k) ytl ydl ync ysc (nI w) (nI sf) (nI sg) (nI sp) (nI ws) ywn ylc ytx yln ykd yor ypa ypz yrb yrk yro ycu yen ylr := by
  obtain ⟨g1, g2, g3⟩ := hG
  have hsg : sp + sg ≤ 128 ∨ 128 < ws := by
    by_cases z : sf = 1
    · have := g1 z; omega
    · have := g2 z; omega
  intro m
  induction m with
  | zero =>
    intro f k w g yrb yrk yro hk hf hw hws hu hW ok
    obtain ⟨f, rfl⟩ : ∃ m, f = m + 1 := ⟨f - 1, by omega⟩
    exact br_t (nI_le (by omega) (by omega)) (ok yrb yrk yro hW)
  | succ m ih =>
    intro f k w g yrb yrk yro hk hf hw hws hu hW ok
    obtain ⟨f, rfl⟩ : ∃ m, f = m + 1 := ⟨f - 1, by omega⟩
    refine br_f (nI_ge (by omega) (by omega)) (nm_r (nI_add a k) ?_)
    have nx : ∀ b o wb wk wo, dv_src Src sf sg sp ws g (a + k) = (b, o) → dv_WX (w + 1) (dv_put g w b 3 o) wb wk wo →
        wY_instruction_336 post (nI n) (nI a) f (nI (k + 1)) ytl ydl ync ysc (nI (w + 1)) (nI sf) (nI sg) (nI sp) (nI ws) ywn ylc ytx yln ykd yor ypa ypz wb wk wo ycu yen ylr := by
      intro b o wb wk wo es hW'
      refine ih _ _ _ _ _ _ _ (by omega) (by omega) (by omega) (by omega) (by omega) hW' fun wb' wk' wo' h3 => ?_
      have := ok wb' wk' wo'
      simp only [dv_cpy, es] at this
      rw [show w + (m + 1) = w + 1 + m by omega] at this
      exact this h3
    have j428 : ∀ cell, cell < w → dv_src Src sf sg sp ws g (a + k) = ((g cell).1, (g cell).2.2) → wY_instruction_428 post (wY_instruction_336 post (nI n) (nI a) f) (nI n) (nI a) (nI k) (nI cell) ytl ydl ync ysc (nI w) (nI sf) (nI sg) (nI sp) (nI ws) ywn ylc ytx yln ykd yor ypa ypz yrb yrk yro ycu yen ylr := by
      intro cell hc es
      unfold wY_instruction_428
      obtain ⟨w1, w2, w3, w4⟩ := hW cell hc
      rw [nI_clamp (by omega), w1, w4]
      have i : vp_in (nI cell) 128 := vp_in_nI (by omega) (by omega)
      exact ⟨i, i, dy_put (by omega) w2 hW fun wb wk wo hW' => nm_r (nI_1 k) (nx _ _ wb wk wo es hW')⟩
    refine pk_le sg (a + k) (fun le => ?_) (fun lt => ?_)
    · unfold wY_instruction_397
      rw [nI_add, pk_sub (a := ws + (a + k)) (b := sg) (by omega)]
      refine br_t (nI_le le (by omega)) (j428 _ (by omega) ?_)
      unfold dv_src; rw [if_neg (by omega)]
    · by_cases z : sf = 1
      · have hl := g1 z
        obtain ⟨s1, s2⟩ := hS (sp + (a + k)) (by omega)
        refine br_t (by rw [z]; rfl) ?_
        rw [nI_add sp (a + k)]
        refine dy_at0 (r := 0) (by omega) hln (by omega) (by omega) s1 ?_
        refine dy_put (by omega) s2 hW fun wb wk wo hW' => nm_r (nI_1 k) (nx _ _ wb wk wo ?_ hW')
        unfold dv_src; rw [if_pos lt, if_pos z]
      · have hl := g2 z
        refine br_f (fun q => z ((nI_eq (b := 1) (by omega) (by omega)).mp q)) ?_
        unfold wY_instruction_397
        rw [nI_add sp (a + k)]
        refine br_f (nI_ge lt (by omega)) (j428 _ (by omega) ?_)
        unfold dv_src; rw [if_pos lt, if_neg z]
section
variable {N S tl : Nat} {Src : List Nat} {sf sg sp ws wl : Nat}
theorem dy_287 {post : Int32 → SY → Prop} {n a : Nat} {D C A' : List Nat} {w : Nat} {g : dv_GT} {K : dv_KT} {E : Except Nat dv_IS}
    (hG : dv_SG Src sf sg sp ws) (hSl : Src.length ≤ 128) (hln : yln 0 = nI Src.length) (hSs : dv_Seg ytx 0 Src) (hws : ws ≤ w) (hn : w + n ≤ ws + wl) (hwl : ws + wl ≤ 128) (ha : a < 2 ^ 30)
    (q1 : dv_PY ytx ycu yen L 1 D) (q2 : dv_PY ytx ycu yen L 2 C) (q3 : dv_PY ytx ycu yen L 3 A') (q4 : dv_WX w g yrb yrk yro) (q5 : dv_CY N S K ylc ylr) (q6 : A'.length + (K.2.2 + 1) ≤ 255)
    (eE : E = dv_cpl N S Src sf sg sp ws n D C w g K (dv_chk a (sg + w - ws) A'))
    (ok : ∀ D' C' A' w' g' K' lc rb rk ro cu lr, E = .ok (D', C', A', w', g', K') → ws ≤ w' → w' ≤ ws + wl →
      dv_RY N S L ytx yen (D', C', A', w', g', K') lc rb rk ro cu lr → post 0 (nI tl, ydl, nI N, nI S, nI w', nI sf, nI sg, nI sp, nI ws, nI wl, lc, ytx, yln, ykd, yor, ypa, ypz, rb, rk, ro, cu, yen, lr))
    (bad : ∀ k a lc rb rk ro cu lr, 1 ≤ k → k ≤ 10 → E = .error k → post (nI k) (nI tl, ydl, nI N, nI S, a, nI sf, nI sg, nI sp, nI ws, nI wl, lc, ytx, yln, ykd, yor, ypa, ypz, rb, rk, ro, cu, yen, lr)) :
    wY_instruction_287 post (nI n) (nI (sg + w - ws)) (nI a) (nI tl) ydl (nI N) (nI S) (nI w) (nI sf) (nI sg) (nI sp) (nI ws) (nI wl) ylc ytx yln ykd yor ypa ypz yrb yrk yro ycu yen ylr := by
  have hsg : sp + sg ≤ 128 := by
    obtain ⟨g1, g2, g3⟩ := hG
    by_cases z : sf = 1
    · have := g1 z; omega
    · have := g2 z; omega
  unfold wY_instruction_287
  refine br_f (nI_pos (by omega)) (pk_lt a (sg + w - ws) (fun lt => ?_) (fun ge => ?_))
  · obtain ⟨c0, c1⟩ := id q5
    have cc := q5
    rw [c0] at cc ⊢
    rw [nI_clamp (by omega)]
    refine br_f (nI_ge (b := 256) (by omega) (by omega)) ⟨vp_in_nI (by omega) (by omega), nm_e (nm_r (nI_1 K.2.2) ⟨n + 1, ?_⟩)⟩
    refine dy_cp336 hG hSl hln hSs (by omega) (by omega) n (n + 1) 0 w g _ _ _ (by omega) (by omega) (by omega) hws (by omega) q4 fun wb' wk' wo' h3 => ?_
    refine ok D C A' (w + n) (dv_cpy Src sf sg sp ws n a w g) (dv_lrn N S a K) _ _ _ _ _ _ ?_ (by omega) (by omega) ⟨q1, q2, q3, h3, dv_CY_l (by omega) cc, q6⟩
    rw [eE]
    simp only [dv_chk, lt, if_true, dv_cpl]
  · refine bad 8 _ _ _ _ _ _ _ (by omega) (by omega) ?_
    rw [eE]
    simp only [dv_chk, Nat.not_lt.mpr ge, if_false, dv_cpl]
theorem dy_bdy {post : Int32 → SY → Prop} {kind mode n : Nat} {D C A : List Nat} {w : Nat} {g : dv_GT} {K : dv_KT}
    (hL : yln 2 = nI L) (hL2 : L ≤ 256) (hN : N ≤ 4) (hS : S ≤ 3) (hG : dv_SG Src sf sg sp ws) (hSl : Src.length ≤ 128) (hln : yln 0 = nI Src.length) (hSs : dv_Seg ytx 0 Src) (hwl : ws + wl ≤ 128) (hws : ws ≤ w) (hww : w ≤ ws + wl)
    (hm : mode < 2 + N + S) (hk : kind < 4) (hn : n < 2097152)
    (R : dv_RY N S L ytx yen (D, C, A, w, g, K) ylc yrb yrk yro ycu ylr)
    (ok : ∀ D' C' A' w' g' K' lc rb rk ro cu lr, dv_bdy N S Src sf sg sp ws wl kind mode n (D, C, A, w, g, K) = .ok (D', C', A', w', g', K') → ws ≤ w' → w' ≤ ws + wl →
      dv_RY N S L ytx yen (D', C', A', w', g', K') lc rb rk ro cu lr → post 0 (nI tl, ydl, nI N, nI S, nI w', nI sf, nI sg, nI sp, nI ws, nI wl, lc, ytx, yln, ykd, yor, ypa, ypz, rb, rk, ro, cu, yen, lr))
    (bad : ∀ k a lc rb rk ro cu lr, 1 ≤ k → k ≤ 10 → dv_bdy N S Src sf sg sp ws wl kind mode n (D, C, A, w, g, K) = .error k → post (nI k) (nI tl, ydl, nI N, nI S, a, nI sf, nI sg, nI sp, nI ws, nI wl, lc, ytx, yln, ykd, yor, ypa, ypz, rb, rk, ro, cu, yen, lr)) :
    wY_instruction_27 post (nI kind) (nI n) (nI mode) (nI tl) ydl (nI N) (nI S) (nI w) (nI sf) (nI sg) (nI sp) (nI ws) (nI wl) ylc ytx yln ykd yor ypa ypz yrb yrk yro ycu yen ylr := by
  obtain ⟨r1, r2, r3, r4, r5, r6⟩ := id R
  dsimp only at r1 r2 r3 r4 r5 r6
  have hsg : sp + sg ≤ 128 := by
    obtain ⟨g1, g2, g3⟩ := hG
    by_cases z : sf = 1
    · have := g1 z; omega
    · have := g2 z; omega
  unfold wY_instruction_27
  rw [pk_sub hws, nI_add]
  refine br_t (nI_pos' (by omega)) (pk_le (w - ws + n) wl (fun le => ?_) (fun gt => ?_))
  · have le' : ¬ wl < w - ws + n := by omega
    refine pk_eq kind 1 (fun k1 => ?_) (fun nk1 => ?_)
    · subst k1
      obtain ⟨d, e1, e2, e3, e4⟩ := id r1
      rw [e1, e2, pk_sub (by omega), show d + D.length - d = D.length by omega]
      refine pk_le n D.length (fun lD => ⟨n + 1, dy_add82 hL hL2 (by omega) n (n + 1) 0 w D g _ _ _ _ (by omega) (by omega) lD (by omega) r1 r4 ?_⟩) (fun lD => ?_)
      · intro cu' wb' wk' wo' h1 h2 h3
        refine ok (D.drop n) C A (w + n) (dv_add (D.take n) w g) K _ _ _ _ _ _ ?_ (by omega) (by omega) ⟨h1, dv_PY_fr r2 (h2 2 (by omega)), dv_PY_fr r3 (h2 3 (by omega)), h3, r5, r6⟩
        simp only [dv_bdy, le', if_false, if_true, Nat.not_lt.mpr lD]
      · refine bad 7 _ _ _ _ _ _ _ (by omega) (by omega) ?_
        simp only [dv_bdy, le', if_false, if_true, lD]
    · refine pk_eq kind 2 (fun k2 => ?_) (fun nk2 => ?_)
      · subst k2
        refine dy_next (p := 1) (by omega) hL hL2 r1 (fun e => ?_) ?_
        · subst e
          refine br_f (by decide) (bad 7 _ _ _ _ _ _ _ (by omega) (by omega) ?_)
          simp only [dv_bdy, le', if_false, if_true, nk1]
        · intro b D' x e hb hD'
          subst e
          refine br_t (dv_bx b hb).2.1 ⟨n + 1, dy_run134 (by omega) hb n (n + 1) 0 w g _ _ _ (by omega) (by omega) (by omega) r4 fun wb' wk' wo' h3 => ?_⟩
          refine ok D' C A (w + n) (dv_run b n w g) K _ _ _ _ _ _ ?_ (by omega) (by omega) ⟨hD', dv_PY_un r2 (by omega), dv_PY_un r3 (by omega), h3, r5, r6⟩
          simp only [dv_bdy, le', if_false, if_true, nk1]
      · have eb : dv_bdy N S Src sf sg sp ws wl kind mode n (D, C, A, w, g, K) = dv_cpl N S Src sf sg sp ws n D C w g K (dv_adr N K mode (sg + w - ws) A) := by
          simp only [dv_bdy, le', if_false, nk1, nk2]
        rw [nI_add, pk_sub (a := sg + w) (b := ws) (by omega), show nI N + 2 = nI (N + 2) from nI_add N 2]
        refine nm_e (pk_le (N + 2) mode (fun ge => ?_) (fun lt => ?_))
        · have ge' : ¬ mode < N + 2 := by omega
          refine dy_next (p := 3) (by omega) hL hL2 r3 (fun e => ?_) ?_
          · subst e
            refine br_t (by decide) (bad 8 _ _ _ _ _ _ _ (by omega) (by omega) ?_)
            rw [eb]
            simp only [dv_adr, ge', if_false, dv_cpl]
          · intro b A' x e hb hA'
            subst e
            rw [List.length_cons] at r6
            refine br_f (dv_bx b hb).1 (pk_le b 15 (fun l15 => ?_) (fun g15 => ?_))
            · rw [pk_sub (a := mode) (b := N) (by omega), show nI (mode - N) - 2 = nI (mode - N - 2) from pk_sub (b := 2) (by omega), show (16 : Int32) = nI 16 from rfl, pk_mul, nI_add]
              refine dy_same (by omega) hS (by omega) r5 fun kb => ?_
              refine dy_287 (D := D) (C := C) (A' := A') (K := K) hG hSl hln hSs hws (by omega) hwl (by omega) (dv_PY_un r1 (by omega)) (dv_PY_un r2 (by omega)) hA' r4 r5 (by omega) ?_ ok bad
              rw [eb]
              simp only [dv_adr, ge', if_false, show b < 16 by omega, if_true]
            · refine bad 8 _ _ _ _ _ _ _ (by omega) (by omega) ?_
              rw [eb]
              simp only [dv_adr, ge', if_false, show ¬ b < 16 by omega, dv_cpl]
        · refine dy_int (p := 3) (by omega) hL hL2 r3 ?_ ?_
          · intro v A' cu' e1 b1 hA' hf
            have lA := (dv_num_lt e1).2
            refine br_t (dv_p0 b1) (pk_eq mode 0 (fun m0 => ?_) (fun n0 => ?_))
            · refine dy_287 (D := D) (C := C) (A' := A') (K := K) hG hSl hln hSs hws (by omega) hwl (by omega) (dv_PY_fr r1 (hf 1 (by omega))) (dv_PY_fr r2 (hf 2 (by omega))) hA' r4 r5 (by omega) ?_ ok bad
              rw [eb]
              subst m0
              simp only [dv_adr, lt, if_true, e1]
            · refine pk_eq mode 1 (fun m1 => ?_) (fun n1 => ?_)
              · by_cases z : v ≤ sg + w - ws
                · refine nm_r (pk_sub z) ?_
                  refine dy_287 (D := D) (C := C) (A' := A') (K := K) hG hSl hln hSs hws (by omega) hwl (by omega) (dv_PY_fr r1 (hf 1 (by omega))) (dv_PY_fr r2 (hf 2 (by omega))) hA' r4 r5 (by omega) ?_ ok bad
                  rw [eb]
                  subst m1
                  simp only [dv_adr, lt, if_true, e1, z, if_false, Nat.one_ne_zero]
                · refine nm_e ?_
                  unfold wY_instruction_241 wY_instruction_287
                  refine br_t (pk_sneg (by omega) (by omega)) (bad 8 _ _ _ _ _ _ _ (by omega) (by omega) ?_)
                  rw [eb]
                  subst m1
                  simp only [dv_adr, lt, if_true, e1, z, if_false, Nat.one_ne_zero, dv_cpl]
              · rw [show nI mode - 2 = nI (mode - 2) from pk_sub (a := mode) (b := 2) (by omega)]
                refine dy_near (i := mode - 2) (by omega) hN (by omega) r5 fun kb => nm_r (nI_add _ _) ?_
                refine dy_287 (D := D) (C := C) (A' := A') (K := K) hG hSl hln hSs hws (by omega) hwl (by omega) (dv_PY_fr r1 (hf 1 (by omega))) (dv_PY_fr r2 (hf 2 (by omega))) hA' r4 r5 (by omega) ?_ ok bad
                rw [eb]
                simp only [dv_adr, lt, if_true, e1, n1, n0, if_false]
          · intro e1 cu'
            refine br_f (by decide) (bad 1 _ _ _ _ _ _ _ (by omega) (by omega) ?_)
            rw [eb]
            simp only [dv_adr, lt, if_true, e1, dv_cpl]
  · refine bad 9 _ _ _ _ _ _ _ (by omega) (by omega) ?_
    simp only [dv_bdy, gt, if_true]
theorem dy_hlf {post : Int32 → SY → Prop} {e : Nat} {D C A : List Nat} {w : Nat} {g : dv_GT} {K : dv_KT}
    (hL : yln 2 = nI L) (hL2 : L ≤ 256) (hN : N ≤ 4) (hS : S ≤ 3) (hG : dv_SG Src sf sg sp ws) (hSl : Src.length ≤ 128) (hln : yln 0 = nI Src.length) (hSs : dv_Seg ytx 0 Src) (hwl : ws + wl ≤ 128) (hws : ws ≤ w) (hww : w ≤ ws + wl)
    (hm : e / 128 < 2 + N + S) (he : e < 2048)
    (R : dv_RY N S L ytx yen (D, C, A, w, g, K) ylc yrb yrk yro ycu ylr)
    (ok : ∀ D' C' A' w' g' K' lc rb rk ro cu lr, dv_hlf N S Src sf sg sp ws wl e (D, C, A, w, g, K) = .ok (D', C', A', w', g', K') → ws ≤ w' → w' ≤ ws + wl →
      dv_RY N S L ytx yen (D', C', A', w', g', K') lc rb rk ro cu lr → post 0 (nI tl, ydl, nI N, nI S, nI w', nI sf, nI sg, nI sp, nI ws, nI wl, lc, ytx, yln, ykd, yor, ypa, ypz, rb, rk, ro, cu, yen, lr))
    (bad : ∀ k a lc rb rk ro cu lr, 1 ≤ k → k ≤ 10 → dv_hlf N S Src sf sg sp ws wl e (D, C, A, w, g, K) = .error k → post (nI k) (nI tl, ydl, nI N, nI S, a, nI sf, nI sg, nI sp, nI ws, nI wl, lc, ytx, yln, ykd, yor, ypa, ypz, rb, rk, ro, cu, yen, lr)) :
    wpY_instruction post (nI tl, ydl, nI N, nI S, nI w, nI sf, nI sg, nI sp, nI ws, nI wl, ylc, ytx, yln, ykd, yor, ypa, ypz, yrb, yrk, yro, ycu, yen, ylr) (nI e) := by
  unfold wpY_instruction
  have q1 : nI e &&& 3 = nI (e % 4) := pk_andN (by omega) 2 (by decide)
  have q2 : (nI e >>> ((2 : Int32) &&& 31)) &&& 31 = nI (e / 4 % 32) := by
    rw [pk_shrN (by omega) _ 2 (by decide)]
    exact pk_andN (by omega) 5 (by decide)
  have q3 : nI e >>> ((7 : Int32) &&& 31) = nI (e / 128) := pk_shrN (by omega) _ 7 (by decide)
  refine nm_r q1 (nm_r q2 (nm_r q3 (pk_eq (e / 4 % 32) 0 (fun z => ?_) (fun nz => ?_))))
  · refine dy_int (p := 2) (by omega) hL hL2 R.2.1 ?_ ?_
    · intro n C' cu' e1 b1 h1 h2
      have ee : dv_hlf N S Src sf sg sp ws wl e (D, C, A, w, g, K) = dv_bdy N S Src sf sg sp ws wl (e % 4) (e / 128) n (D, C', A, w, g, K) := by
        simp only [dv_hlf, z, if_true, e1]
      rw [ee] at ok bad
      obtain ⟨r1, r2, r3, r4, r5, r6⟩ := R
      exact dy_bdy (C := C') hL hL2 hN hS hG hSl hln hSs hwl hws hww hm (by omega) b1 ⟨dv_PY_fr r1 (h2 1 (by omega)), h1, dv_PY_fr r3 (h2 3 (by omega)), r4, r5, r6⟩ ok bad
    · intro e1 cu'
      unfold wY_instruction_27
      refine br_f (by decide) (bad 1 _ _ _ _ _ _ _ (by omega) (by omega) ?_)
      simp only [dv_hlf, z, if_true, e1]
  · have ee : dv_hlf N S Src sf sg sp ws wl e (D, C, A, w, g, K) = dv_bdy N S Src sf sg sp ws wl (e % 4) (e / 128) (e / 4 % 32) (D, C, A, w, g, K) := by
      simp only [dv_hlf, nz, if_false]
    rw [ee] at ok bad
    exact dy_bdy hL hL2 hN hS hG hSl hln hSs hwl hws hww hm (by omega) (by omega) R ok bad
end
end
end
section
/-! Y: codeEntry is a fold over the definition of the table -/
def dv_it (f : Nat → Nat × Nat → Nat × Nat) : Nat → Nat → Nat × Nat → Nat × Nat
  | 0, _, p => p
  | k + 1, i, p => dv_it f k (i + 1) (f i p)
def dv_fC (N o d0 m a c : Nat) (p : Nat × Nat) : Nat × Nat := if m < N + 2 then (if o = d0 + 12 * m + 3 * (a - 1) + (c - 4) then (1 + 4 * a, 3 + 4 * c + 128 * m) else p) else p
def dv_fE (N o e0 m a : Nat) (p : Nat × Nat) : Nat × Nat := if m < N + 2 then p else (if o = e0 + 4 * (m - N - 2) + (a - 1) then (1 + 4 * a, 19 + 128 * m) else p)
def dv_fa (N o d0 e0 m a : Nat) (p : Nat × Nat) : Nat × Nat := dv_fE N o e0 m a (dv_it (dv_fC N o d0 m a) 3 4 p)
def dv_fF (o f0 m : Nat) (p : Nat × Nat) : Nat × Nat := if o = f0 + m then (19 + 128 * m, 5) else p
def dv_fB (o m c : Nat) (p : Nat × Nat) : Nat × Nat := if o = 19 + 16 * m + (c - 3) then (3 + 4 * c + 128 * m, p.2) else p
def dv_f0 (o m : Nat) (p : Nat × Nat) : Nat × Nat := if o = 19 + 16 * m then (3 + 128 * m, p.2) else p
def dv_fM (N o d0 e0 f0 m : Nat) (p : Nat × Nat) : Nat × Nat := dv_fF o f0 m (dv_it (dv_fa N o d0 e0 m) 4 1 (dv_it (dv_fB o m) 15 4 (dv_f0 o m p)))
def dv_fA (o a : Nat) (p : Nat × Nat) : Nat × Nat := if o = 1 + a then (1 + 4 * a, p.2) else p
def dv_yv (N S o : Nat) : Nat × Nat :=
  dv_it (dv_fM N o (19 + 16 * (2 + N + S)) (19 + 16 * (2 + N + S) + 12 * (N + 2)) (19 + 16 * (2 + N + S) + 12 * (N + 2) + 4 * S)) (2 + N + S) 0 (dv_it (dv_fA o) 18 0 (if o = 0 then (2, 0) else (0, 0)))
theorem dv_y_chk : ((List.range 5).all fun N => (List.range 4).all fun S => (List.range (dv_sz N S)).all fun o => decide (dv_yv N S o = dv_T N S o)) = true := by decide +kernel
theorem dv_yt {N S o : Nat} (hN : N ≤ 4) (hS : S ≤ 3) (ho : o < dv_sz N S) : dv_yv N S o = dv_T N S o :=
  of_decide_eq_true (dv_all3 dv_y_chk hN hS ho)
end
section
section
variable {ytl ydl ync ysc yrl yin ysl yss yws ywn ylc : Int32} {ytx yln ykd yor ypa ypz yrb yrk yro ycu yen ylr : Nat → Int32}
variable {N S o : Nat} {x2 : Int32}
theorem dv_q1 (a : Nat) : (1 : Int32) + 4 * nI a = nI (1 + 4 * a) := by rw [show (4 : Int32) = nI 4 from rfl, pk_mul, show (1 : Int32) = nI 1 from rfl, nI_add]
theorem dv_q2 (c m : Nat) : (3 : Int32) + 4 * nI c + 128 * nI m = nI (3 + 4 * c + 128 * m) := by
  rw [show (4 : Int32) = nI 4 from rfl, pk_mul, show (3 : Int32) = nI 3 from rfl, nI_add, show (128 : Int32) = nI 128 from rfl, pk_mul, nI_add]
theorem dv_q3 (m : Nat) : (19 : Int32) + 128 * nI m = nI (19 + 128 * m) := by rw [show (128 : Int32) = nI 128 from rfl, pk_mul, show (19 : Int32) = nI 19 from rfl, nI_add]
theorem dv_q4 (m : Nat) : (3 : Int32) + 128 * nI m = nI (3 + 128 * m) := by rw [show (128 : Int32) = nI 128 from rfl, pk_mul, show (3 : Int32) = nI 3 from rfl, nI_add]
theorem dv_q5 (m : Nat) : (19 : Int32) + 16 * nI m = nI (19 + 16 * m) := by rw [show (16 : Int32) = nI 16 from rfl, pk_mul, show (19 : Int32) = nI 19 from rfl, nI_add]
theorem dy_210 {post : Int32 → Prop} {J1 J2 : Int32 → Int32 → Int32 → Prop} {d0 e0 f0 m a : Nat} (hN : N ≤ 4) (hS : S ≤ 3) (ho : o < 256) (hm : m < 9) (ha : 1 ≤ a) (ha4 : a ≤ 4) (hd : d0 ≤ 256) (he : e0 ≤ 256) :
    ∀ (k n c : Nat) (p : Nat × Nat), c + k = 7 → 4 ≤ c → k < n →
    (J2 (nI (dv_fE N o e0 m a (dv_it (dv_fC N o d0 m a) k c p)).1) (nI (dv_fE N o e0 m a (dv_it (dv_fC N o d0 m a) k c p)).2) (nI (a + 1))) →
    wY_codeEntry_210 post J1 J2 (nI o) x2 (nI (2 + N + S)) (nI d0) (nI e0) (nI f0) (nI m) (nI a) ytl ydl (nI N) ysc yrl yin ysl yss yws ywn ylc ytx yln ykd yor ypa ypz yrb yrk yro ycu yen ylr n (nI p.1) (nI p.2) (nI c) := by
  have e2 : nI N + 2 = nI (N + 2) := nI_add N 2
  intro k
  induction k with
  | zero =>
    intro n c p hc hc4 hn h
    obtain ⟨n, rfl⟩ : ∃ m, n = m + 1 := ⟨n - 1, by omega⟩
    obtain rfl : c = 7 := by omega
    refine br_t (nI_lt (a := 6) (b := 7) (by omega) (by omega)) ?_
    simp only [dv_it, dv_fE] at h
    rw [e2]
    refine pk_lt m (N + 2) (fun lt => ?_) (fun ge => ?_)
    · rw [if_pos lt] at h
      exact nm_r (nI_1 a) h
    · rw [if_neg (by omega)] at h
      have ei : nI e0 + 4 * (nI m - nI N - 2) + (nI a - 1) = nI (e0 + 4 * (m - N - 2) + (a - 1)) := by
        rw [pk_sub (a := m) (b := N) (by omega), show nI (m - N) - 2 = nI (m - N - 2) from pk_sub (b := 2) (by omega), show nI a - 1 = nI (a - 1) from pk_sub (b := 1) ha, show (4 : Int32) = nI 4 from rfl, pk_mul, nI_add, nI_add]
      rw [ei]
      refine pk_eq o (e0 + 4 * (m - N - 2) + (a - 1)) (fun z => ?_) (fun z => ?_)
      · rw [if_pos z] at h
        exact nm_r (dv_q1 a) (nm_r (dv_q3 m) (nm_r (nI_1 a) h))
      · rw [if_neg z] at h
        exact nm_r (nI_1 a) h
  | succ k ih =>
    intro n c p hc hc4 hn h
    obtain ⟨n, rfl⟩ : ∃ m, n = m + 1 := ⟨n - 1, by omega⟩
    refine br_f (nI_nlt (a := 6) (by omega) (by omega)) ?_
    simp only [dv_it] at h
    rw [e2]
    refine pk_le (N + 2) m (fun ge => ?_) (fun lt => ?_)
    · have : dv_fC N o d0 m a c p = p := by unfold dv_fC; rw [if_neg (by omega)]
      rw [this] at h
      exact nm_r (nI_1 c) (ih _ _ _ (by omega) (by omega) (by omega) h)
    · have ei : nI d0 + 12 * nI m + 3 * (nI a - 1) + (nI c - 4) = nI (d0 + 12 * m + 3 * (a - 1) + (c - 4)) := by
        rw [show nI a - 1 = nI (a - 1) from pk_sub (b := 1) ha, show nI c - 4 = nI (c - 4) from pk_sub (b := 4) hc4, show (12 : Int32) = nI 12 from rfl, pk_mul, show (3 : Int32) = nI 3 from rfl, pk_mul, nI_add, nI_add, nI_add]
      rw [ei]
      refine pk_eq o (d0 + 12 * m + 3 * (a - 1) + (c - 4)) (fun z => ?_) (fun z => ?_)
      · have : dv_fC N o d0 m a c p = (1 + 4 * a, 3 + 4 * c + 128 * m) := by unfold dv_fC; rw [if_pos lt, if_pos z]
        rw [this] at h
        exact nm_r (dv_q1 a) (nm_r (dv_q2 c m) (nm_r (nI_1 c) (ih _ _ (1 + 4 * a, 3 + 4 * c + 128 * m) (by omega) (by omega) (by omega) h)))
      · have : dv_fC N o d0 m a c p = p := by unfold dv_fC; rw [if_pos lt, if_neg z]
        rw [this] at h
        exact nm_r (nI_1 c) (ih _ _ _ (by omega) (by omega) (by omega) h)
theorem dy_201 {post : Int32 → Prop} {J1 : Int32 → Int32 → Int32 → Prop} {d0 e0 f0 m : Nat} (hN : N ≤ 4) (hS : S ≤ 3) (ho : o < 256) (hm : m < 9) (hd : d0 ≤ 256) (he : e0 ≤ 256) (hf : f0 ≤ 256) :
    ∀ (k n a : Nat) (p : Nat × Nat), a + k = 5 → 1 ≤ a → k < n →
    (J1 (nI (dv_fF o f0 m (dv_it (dv_fa N o d0 e0 m) k a p)).1) (nI (dv_fF o f0 m (dv_it (dv_fa N o d0 e0 m) k a p)).2) (nI (m + 1))) →
    wY_codeEntry_201 post J1 (nI o) x2 (nI (2 + N + S)) (nI d0) (nI e0) (nI f0) (nI m) ytl ydl (nI N) ysc yrl yin ysl yss yws ywn ylc ytx yln ykd yor ypa ypz yrb yrk yro ycu yen ylr n (nI p.1) (nI p.2) (nI a) := by
  intro k
  induction k with
  | zero =>
    intro n a p hc hc4 hn h
    obtain ⟨n, rfl⟩ : ∃ m, n = m + 1 := ⟨n - 1, by omega⟩
    obtain rfl : a = 5 := by omega
    refine br_t (nI_lt (a := 4) (b := 5) (by omega) (by omega)) ?_
    simp only [dv_it, dv_fF] at h
    rw [nI_add f0 m]
    refine pk_eq o (f0 + m) (fun z => ?_) (fun z => ?_)
    · rw [if_pos z] at h
      exact nm_r (dv_q3 m) (nm_r (nI_1 m) h)
    · rw [if_neg z] at h
      exact nm_r (nI_1 m) h
  | succ k ih =>
    intro n a p hc hc4 hn h
    obtain ⟨n, rfl⟩ : ∃ m, n = m + 1 := ⟨n - 1, by omega⟩
    refine br_f (nI_nlt (a := 4) (by omega) (by omega)) ⟨4, ?_⟩
    exact dy_210 hN hS ho hm hc4 (by omega) hd he 3 4 4 p (by omega) (by omega) (by omega) (ih n (a + 1) (dv_fa N o d0 e0 m a p) (by omega) (by omega) (by omega) h)
theorem dy_153 {post : Int32 → Prop} {J1 : Int32 → Int32 → Int32 → Prop} {d0 e0 f0 m : Nat} (hN : N ≤ 4) (hS : S ≤ 3) (ho : o < 256) (hm : m < 9) (hd : d0 ≤ 256) (he : e0 ≤ 256) (hf : f0 ≤ 256) :
    ∀ (k n c : Nat) (p : Nat × Nat), c + k = 19 → 4 ≤ c → k < n →
    (J1 (nI (dv_fF o f0 m (dv_it (dv_fa N o d0 e0 m) 4 1 (dv_it (dv_fB o m) k c p))).1) (nI (dv_fF o f0 m (dv_it (dv_fa N o d0 e0 m) 4 1 (dv_it (dv_fB o m) k c p))).2) (nI (m + 1))) →
    wY_codeEntry_153 post J1 (nI o) x2 (nI (2 + N + S)) (nI d0) (nI e0) (nI f0) (nI p.2) (nI m) ytl ydl (nI N) ysc yrl yin ysl yss yws ywn ylc ytx yln ykd yor ypa ypz yrb yrk yro ycu yen ylr n (nI p.1) (nI c) := by
  intro k
  induction k with
  | zero =>
    intro n c p hc hc4 hn h
    obtain ⟨n, rfl⟩ : ∃ m, n = m + 1 := ⟨n - 1, by omega⟩
    obtain rfl : c = 19 := by omega
    exact br_t (nI_lt (a := 18) (b := 19) (by omega) (by omega)) ⟨5, dy_201 hN hS ho hm hd he hf 4 5 1 p (by omega) (by omega) (by omega) h⟩
  | succ k ih =>
    intro n c p hc hc4 hn h
    obtain ⟨n, rfl⟩ : ∃ m, n = m + 1 := ⟨n - 1, by omega⟩
    refine br_f (nI_nlt (a := 18) (by omega) (by omega)) ?_
    simp only [dv_it] at h
    have ei : (19 : Int32) + 16 * nI m + (nI c - 3) = nI (19 + 16 * m + (c - 3)) := by
      rw [dv_q5, show nI c - 3 = nI (c - 3) from pk_sub (b := 3) (by omega), nI_add]
    rw [ei]
    refine pk_eq o (19 + 16 * m + (c - 3)) (fun z => ?_) (fun z => ?_)
    · have : dv_fB o m c p = (3 + 4 * c + 128 * m, p.2) := by unfold dv_fB; rw [if_pos z]
      rw [this] at h
      exact nm_r (dv_q2 c m) (nm_r (nI_1 c) (ih _ _ (3 + 4 * c + 128 * m, p.2) (by omega) (by omega) (by omega) h))
    · have : dv_fB o m c p = p := by unfold dv_fB; rw [if_neg z]
      rw [this] at h
      exact nm_r (nI_1 c) (ih _ _ _ (by omega) (by omega) (by omega) h)
theorem dy_121 {post : Int32 → Prop} {d0 e0 f0 h : Nat} (hN : N ≤ 4) (hS : S ≤ 3) (ho : o < 256) (hd : d0 ≤ 256) (he : e0 ≤ 256) (hf : f0 ≤ 256) (hh : h < 2) :
    ∀ (k n m : Nat) (p : Nat × Nat), m + k = 2 + N + S → k < n →
    (h = 0 → post (nI (dv_it (dv_fM N o d0 e0 f0) k m p).1)) → (h = 1 → post (nI (dv_it (dv_fM N o d0 e0 f0) k m p).2)) →
    wY_codeEntry_121 post (nI o) (nI h) (nI (2 + N + S)) (nI d0) (nI e0) (nI f0) ytl ydl (nI N) ysc yrl yin ysl yss yws ywn ylc ytx yln ykd yor ypa ypz yrb yrk yro ycu yen ylr n (nI p.1) (nI p.2) (nI m) := by
  intro k
  induction k with
  | zero =>
    intro n m p hc hn h0 h1
    obtain ⟨n, rfl⟩ : ∃ m, n = m + 1 := ⟨n - 1, by omega⟩
    exact br_t (nI_le (by omega) (by omega)) (pk_eq h 0 h0 (fun z => h1 (by omega)))
  | succ k ih =>
    intro n m p hc hn h0 h1
    obtain ⟨n, rfl⟩ : ∃ m, n = m + 1 := ⟨n - 1, by omega⟩
    refine br_f (nI_ge (by omega) (by omega)) ?_
    simp only [dv_it] at h0 h1
    have nx := ih n (m + 1) (dv_fM N o d0 e0 f0 m p) (by omega) (by omega) h0 h1
    rw [dv_q5]
    refine pk_eq o (19 + 16 * m) (fun z => ?_) (fun z => ?_)
    · have e : dv_f0 o m p = (3 + 128 * m, p.2) := by unfold dv_f0; rw [if_pos z]
      unfold dv_fM at nx
      rw [e] at nx
      exact nm_r (dv_q4 m) ⟨16, dy_153 hN hS ho (by omega) hd he hf 15 16 4 (3 + 128 * m, p.2) (by omega) (by omega) (by omega) nx⟩
    · have e : dv_f0 o m p = p := by unfold dv_f0; rw [if_neg z]
      unfold dv_fM at nx
      rw [e] at nx
      exact ⟨16, dy_153 hN hS ho (by omega) hd he hf 15 16 4 p (by omega) (by omega) (by omega) nx⟩
theorem dy_89 {post : Int32 → Prop} {d0 e0 f0 h : Nat} (hN : N ≤ 4) (hS : S ≤ 3) (ho : o < 256) (hd : d0 ≤ 256) (he : e0 ≤ 256) (hf : f0 ≤ 256) (hh : h < 2) :
    ∀ (k n a : Nat) (p : Nat × Nat), a + k = 18 → k < n →
    (h = 0 → post (nI (dv_it (dv_fM N o d0 e0 f0) (2 + N + S) 0 (dv_it (dv_fA o) k a p)).1)) → (h = 1 → post (nI (dv_it (dv_fM N o d0 e0 f0) (2 + N + S) 0 (dv_it (dv_fA o) k a p)).2)) →
    wY_codeEntry_89 post (nI o) (nI h) (nI (2 + N + S)) (nI d0) (nI e0) (nI f0) (nI p.2) ytl ydl (nI N) ysc yrl yin ysl yss yws ywn ylc ytx yln ykd yor ypa ypz yrb yrk yro ycu yen ylr n (nI p.1) (nI a) := by
  intro k
  induction k with
  | zero =>
    intro n a p hc hn h0 h1
    obtain ⟨n, rfl⟩ : ∃ m, n = m + 1 := ⟨n - 1, by omega⟩
    obtain rfl : a = 18 := by omega
    exact br_t (nI_lt (a := 17) (b := 18) (by omega) (by omega)) ⟨2 + N + S + 1, dy_121 hN hS ho hd he hf hh (2 + N + S) _ 0 p (by omega) (by omega) h0 h1⟩
  | succ k ih =>
    intro n a p hc hn h0 h1
    obtain ⟨n, rfl⟩ : ∃ m, n = m + 1 := ⟨n - 1, by omega⟩
    refine br_f (nI_nlt (a := 17) (by omega) (by omega)) ?_
    simp only [dv_it] at h0 h1
    rw [show (1 : Int32) + nI a = nI (1 + a) from nI_add 1 a]
    refine pk_eq o (1 + a) (fun z => ?_) (fun z => ?_)
    · have e : dv_fA o a p = (1 + 4 * a, p.2) := by unfold dv_fA; rw [if_pos z]
      rw [e] at h0 h1
      exact nm_r (dv_q1 a) (nm_r (nI_1 a) (ih _ _ (1 + 4 * a, p.2) (by omega) (by omega) h0 h1))
    · have e : dv_fA o a p = p := by unfold dv_fA; rw [if_neg z]
      rw [e] at h0 h1
      exact nm_r (nI_1 a) (ih _ _ _ (by omega) (by omega) h0 h1)
theorem dv_szI (N S : Nat) : (77 : Int32) + 29 * nI N + 21 * nI S = nI (dv_sz N S) := by
  rw [show (29 : Int32) = nI 29 from rfl, pk_mul, show (77 : Int32) = nI 77 from rfl, nI_add, show (21 : Int32) = nI 21 from rfl, pk_mul, nI_add]
  rfl
theorem dy_ce {post : Int32 → Prop} {h : Nat} (hN : N ≤ 4) (hS : S ≤ 3) (ho : o < dv_sz N S) (hh : h < 2)
    (h0 : h = 0 → post (nI (dv_T1 N S o))) (h1 : h = 1 → post (nI (dv_T2 N S o))) : wpY_codeEntry post (ytl, ydl, nI N, nI S, yrl, yin, ysl, yss, yws, ywn, ylc, ytx, yln, ykd, yor, ypa, ypz, yrb, yrk, yro, ycu, yen, ylr) (nI o) (nI h) := by
  have ho' : o < 256 := by unfold dv_sz at ho; omega
  have hz : dv_sz N S ≤ 256 := by unfold dv_sz; omega
  unfold wpY_codeEntry wpY_codeTableSize
  dsimp only
  rw [dv_szI, show (2 : Int32) + nI N + nI S = nI (2 + N + S) from by rw [show (2 : Int32) = nI 2 from rfl, nI_add, nI_add]]
  refine br_f (nI_pos (by omega)) (br_f (nI_ge ho (by omega)) (br_f (nI_pos (by omega)) (br_t (nI_le (b := 1) (by omega) (by omega)) ?_)))
  have e6 : nI (19 + 16 * (2 + N + S)) + 12 * (nI N + 2) = nI (19 + 16 * (2 + N + S) + 12 * (N + 2)) := by
    rw [show nI N + 2 = nI (N + 2) from nI_add N 2, show (12 : Int32) = nI 12 from rfl, pk_mul, nI_add]
  have e7 : nI (19 + 16 * (2 + N + S) + 12 * (N + 2)) + 4 * nI S = nI (19 + 16 * (2 + N + S) + 12 * (N + 2) + 4 * S) := by
    rw [show (4 : Int32) = nI 4 from rfl, pk_mul, nI_add]
  have yt := dv_yt hN hS ho
  unfold dv_T1 at h0
  unfold dv_T2 at h1
  rw [← yt] at h0 h1
  unfold dv_yv at h0 h1
  refine nm_e (nm_r (dv_q5 _) (nm_r e6 (nm_r e7 (pk_eq o 0 (fun z => ?_) (fun z => ?_)))))
  · rw [if_pos z] at h0 h1
    exact ⟨19, dy_89 hN hS ho' (by omega) (by omega) (by omega) hh 18 19 0 (2, 0) (by omega) (by omega) h0 h1⟩
  · rw [if_neg z] at h0 h1
    exact ⟨19, dy_89 hN hS ho' (by omega) (by omega) (by omega) hh 18 19 0 (0, 0) (by omega) (by omega) h0 h1⟩
theorem dy_ceb {post : Int32 → Prop} {h : Int32} (hN : N ≤ 4) (hS : S ≤ 3) (ho : dv_sz N S ≤ o) (hb : o < 2 ^ 31) (hp : post (-1)) : wpY_codeEntry post (ytl, ydl, nI N, nI S, yrl, yin, ysl, yss, yws, ywn, ylc, ytx, yln, ykd, yor, ypa, ypz, yrb, yrk, yro, ycu, yen, ylr) (nI o) h := by
  unfold wpY_codeEntry wpY_codeTableSize
  dsimp only
  rw [dv_szI]
  exact br_f (nI_pos hb) (br_t (nI_le ho hb) hp)
end
end
section
/-! Y: the head of a window, its turns, the window -/
section
variable {ytl ydl ync ysc yrl yin ysl yss yws ywn ylc : Int32} {ytx yln ykd yor ypa ypz yrb yrk yro ycu yen ylr : Nat → Int32}
variable {L N S tl : Nat} {Src : List Nat}
theorem dy_129 {post : Int32 → SY → Prop} {w : Nat} {H : List Nat} (hL : yln 2 = nI L) (hL2 : L ≤ 256) (hw : w ≤ 128) (ht : tl ≤ 128) (hen : yen 0 = nI L) (h : dv_PY ytx ycu yen L 0 H)
    (ok : ∀ wl D C A H' e cu' en', dv_sec tl w H = .ok (wl, D, C, A, H') → en' 0 = nI L → e + H'.length = L → dv_Seg ytx (512 + e) H' → dv_PY ytx cu' en' L 1 D → dv_PY ytx cu' en' L 2 C → dv_PY ytx cu' en' L 3 A → wl < 2097152 →
      ∃ n, wY_window_355 post (nI e) n 0 (nI tl) ydl ync ysc (nI w) yin ysl yss yws (nI wl) ylc ytx yln ykd yor ypa ypz yrb yrk yro cu' en' ylr)
    (bad : ∀ k a cu', 1 ≤ k → k ≤ 10 → dv_sec tl w H = .error k → post (nI k) (nI tl, ydl, ync, ysc, nI w, yin, ysl, yss, yws, a, ylc, ytx, yln, ykd, yor, ypa, ypz, yrb, yrk, yro, cu', yen, ylr)) :
    wY_window_129 post (nI tl) ydl ync ysc (nI w) yin ysl yss yws ywn ylc ytx yln ykd yor ypa ypz yrb yrk yro ycu yen ylr := by
  unfold wY_window_129
  refine dy_int (p := 0) (by omega) hL hL2 h ?_ ?_
  · intro rest H1 cu1 e1 b1 hH1 _
    refine br_t (dv_p0 b1) ?_
    obtain ⟨d, f1, f2, f3, f4⟩ := id hH1
    have fd : d + H1.length = L := by
      have := f2.symm.trans hen
      rw [nI_eq (by omega) (by omega)] at this
      exact this
    refine nm_r (e' := nI (d + rest)) (by rw [f1, nI_add]) ?_
    refine pk_le (d + rest) L (fun le => ?_) (fun gt => ?_) rfl hL
    · have le' : ¬ H1.length < rest := by omega
      refine dy_int (p := 0) (by omega) hL hL2 hH1 ?_ ?_
      · intro wl H2 cu2 e2 b2 hH2 _
        refine br_t (dv_p0 b2) ?_
        refine pk_le (w + wl) tl (fun le2 => ?_) (fun gt2 => ?_) (nI_add w wl)
        · have le2' : ¬ tl < w + wl := by omega
          refine dy_next (p := 0) (by omega) hL hL2 hH2 ?_ ?_
          · intro e
            subst e
            refine br_f (by decide) (bad 5 _ _ (by omega) (by omega) ?_)
            simp only [dv_sec, e1, e2, le', le2', if_false]
          · intro b H3 x e hb hH3
            subst e
            obtain ⟨c1, c2, c3, c4⟩ := dv_bx b hb
            refine br_t c2 ?_
            by_cases z : b = 0
            · subst z
              refine br_t rfl (dy_int (p := 0) (by omega) hL hL2 hH3 ?_ ?_)
              · intro x4 H4 cu4 e4 b4 hH4 _
                refine br_t (dv_p0 b4) (dy_int (p := 0) (by omega) hL hL2 hH4 ?_ ?_)
                · intro x5 H5 cu5 e5 b5 hH5 _
                  refine br_t (dv_p0 b5) (dy_int (p := 0) (by omega) hL hL2 hH5 ?_ ?_)
                  · intro x6 H6 cu6 e6 b6 hH6 _
                    obtain ⟨d6, g1, g2, g3, g4⟩ := id hH6
                    have l2 := (dv_num_lt e2).2
                    have l4 := (dv_num_lt e4).2
                    have l5 := (dv_num_lt e5).2
                    have l6 := (dv_num_lt e6).2
                    simp only [List.length_cons] at l2
                    have dd : d6 + H6.length = L := by
                      have := g2.symm.trans hen
                      rw [nI_eq (by omega) (by omega)] at this
                      exact this
                    refine br_t (dv_p0 b6) ?_
                    refine pk_eq (d6 + x4 + x5 + x6) (d + rest) (fun eq => ?_) (fun ne => ?_) (by rw [g1, nI_add, nI_add, nI_add])
                    · have q : H1.length - H6.length + x4 + x5 + x6 = rest := by omega
                      have m1 : x4 ≤ H6.length := by omega
                      obtain ⟨s1, s2⟩ := dv_Seg_td g4 m1
                      obtain ⟨s3, s4⟩ := dv_Seg_td s2 (n := x5) (by rw [List.length_drop]; omega)
                      rw [List.drop_drop] at s4
                      obtain ⟨s5, s6⟩ := dv_Seg_td s4 (n := x6) (by rw [List.length_drop]; omega)
                      rw [List.drop_drop] at s6
                      refine nm_e (nm_e (nm_e (nm_e (nm_e (nm_e ?_)))))
                      refine ok wl (H6.take x4) ((H6.drop x4).take x5) ((H6.drop (x4 + x5)).take x6) (H6.drop (x4 + x5 + x6)) (d + rest) _ _ ?_ ?_ ?_ ?_ ?_ ?_ ?_ b2
                      · simp only [dv_sec, e1, e2, le', le2', if_false, e4, e5, e6, q, if_true]
                      · exact hen
                      · rw [List.length_drop]; omega
                      · rw [← eq, show 512 + (d6 + x4 + x5 + x6) = 512 + d6 + x4 + x5 + x6 by omega]; exact s6
                      · refine ⟨d6, ?_, ?_, by rw [List.length_take]; omega, s1⟩
                        · exact g1
                        · show cu6 0 + nI x4 = _
                          rw [g1, nI_add, List.length_take, Nat.min_eq_left m1]
                      · refine ⟨d6 + x4, ?_, ?_, by rw [List.length_take, List.length_drop]; omega, ?_⟩
                        · show cu6 0 + nI x4 = _
                          rw [g1, nI_add]
                        · show cu6 0 + nI x4 + nI x5 = _
                          rw [g1, nI_add, nI_add, List.length_take, List.length_drop, Nat.min_eq_left (by omega)]
                        · rw [show 512 + (d6 + x4) = 512 + d6 + x4 by omega]; exact s3
                      · refine ⟨d6 + x4 + x5, ?_, ?_, by rw [List.length_take, List.length_drop]; omega, ?_⟩
                        · show cu6 0 + nI x4 + nI x5 = _
                          rw [g1, nI_add, nI_add]
                        · show nI (d + rest) = _
                          rw [← eq, List.length_take, List.length_drop, Nat.min_eq_left (by omega)]
                        · rw [show 512 + (d6 + x4 + x5) = 512 + d6 + x4 + x5 by omega]; exact s5
                    · refine bad 5 _ _ (by omega) (by omega) ?_
                      have q : ¬ H1.length - H6.length + x4 + x5 + x6 = rest := by omega
                      simp only [dv_sec, e1, e2, le', le2', if_false, e4, e5, e6, q, if_true]
                  · intro e6 cu6
                    refine br_f (by decide) (bad 1 _ _ (by omega) (by omega) ?_)
                    simp only [dv_sec, e1, e2, le', le2', if_false, e4, e5, e6, if_true]
                · intro e5 cu5
                  refine br_f (by decide) (bad 1 _ _ (by omega) (by omega) ?_)
                  simp only [dv_sec, e1, e2, le', le2', if_false, e4, e5, if_true]
              · intro e4 cu4
                refine br_f (by decide) (bad 1 _ _ (by omega) (by omega) ?_)
                simp only [dv_sec, e1, e2, le', le2', if_false, e4, if_true]
            · refine br_f (nI_ne0 (by omega) (by omega)) (bad 2 _ _ (by omega) (by omega) ?_)
              simp only [dv_sec, e1, e2, le', le2', if_false, z]
        · refine bad 4 _ _ (by omega) (by omega) ?_
          simp only [dv_sec, e1, e2, le', if_false, gt2, if_true]
      · intro e2 cu2
        refine br_f (by decide) (bad 1 _ _ (by omega) (by omega) ?_)
        simp only [dv_sec, e1, e2, le', if_false]
    · refine bad 5 _ _ (by omega) (by omega) ?_
      have gt' : H1.length < rest := by omega
      simp only [dv_sec, e1, gt', if_true]
  · intro e1 cu1
    refine br_f (by decide) (bad 1 _ _ (by omega) (by omega) ?_)
    simp only [dv_sec, e1]
theorem dy_ptlt {tx cu en : Nat → Int32} {p : Nat} {D : List Nat} (hL2 : L ≤ 256) (h : dv_PY tx cu en L p D) {A B : Prop} (a : 0 < D.length → A) (b : D.length = 0 → B) : (cu p < en p → A) ∧ (¬ cu p < en p → B) := by
  obtain ⟨d, e1, e2, e3, e4⟩ := h
  rw [e1, e2]
  exact pk_lt d (d + D.length) (fun q => a (by omega)) (fun q => b (by omega))
theorem dy_ptle {tx cu en : Nat → Int32} {p : Nat} {D : List Nat} (hL2 : L ≤ 256) (h : dv_PY tx cu en L p D) {A B : Prop} (a : D.length = 0 → A) (b : 0 < D.length → B) : (en p ≤ cu p → A) ∧ (¬ en p ≤ cu p → B) := by
  obtain ⟨d, e1, e2, e3, e4⟩ := h
  rw [e1, e2]
  exact pk_le (d + D.length) d (fun q => a (by omega)) (fun q => b (by omega))
section
variable {sf sg sp ws wl : Nat}
theorem dy_355 {post : Int32 → SY → Prop} {E : Int32}
    (hL : yln 2 = nI L) (hL2 : L ≤ 256) (hN : N ≤ 4) (hS : S ≤ 3) (hG : dv_SG Src sf sg sp ws) (hSl : Src.length ≤ 128) (hln : yln 0 = nI Src.length) (hSs : dv_Seg ytx 0 Src) (hwl : ws + wl ≤ 128) :
    ∀ (m f t : Nat) (D C A : List Nat) (w : Nat) (g : dv_GT) (K : dv_KT) (ylc : Int32) (yrb yrk yro ycu ylr : Nat → Int32), C.length ≤ m → m < f → t + C.length ≤ 256 → ws ≤ w → w ≤ ws + wl →
    dv_RY N S L ytx yen (D, C, A, w, g, K) ylc yrb yrk yro ycu ylr →
    (∀ D' C' A' w' g' K' lc rb rk ro cu lr, dv_trs N S Src sf sg sp ws wl m (D, C, A, w, g, K) = .ok (D', C', A', w', g', K') → ws ≤ w' → w' ≤ ws + wl →
      dv_RY N S L ytx yen (D', C', A', w', g', K') lc rb rk ro cu lr → wY_window_451 post E (nI tl) ydl (nI N) (nI S) (nI w') (nI sf) (nI sg) (nI sp) (nI ws) (nI wl) lc ytx yln ykd yor ypa ypz rb rk ro cu yen lr) →
    (∀ k a lc rb rk ro cu lr, 1 ≤ k → k ≤ 10 → dv_trs N S Src sf sg sp ws wl m (D, C, A, w, g, K) = .error k → post (nI k) (nI tl, ydl, nI N, nI S, a, nI sf, nI sg, nI sp, nI ws, nI wl, lc, ytx, yln, ykd, yor, ypa, ypz, rb, rk, ro, cu, yen, lr)) →
    wY_window_355 post E f (nI t) (nI tl) ydl (nI N) (nI S) (nI w) (nI sf) (nI sg) (nI sp) (nI ws) (nI wl) ylc ytx yln ykd yor ypa ypz yrb yrk yro ycu yen ylr := by
  intro m
  induction m with
  | zero =>
    intro f t D C A w g K ylc yrb yrk yro ycu ylr hC hf ht hws hww R ok bad
    obtain ⟨f, rfl⟩ : ∃ m, f = m + 1 := ⟨f - 1, by omega⟩
    have fin := ok D C A w g K ylc yrb yrk yro ycu ylr rfl hws hww R
    exact pk_le 256 t (fun _ => fin) (fun _ => dy_ptle hL2 R.2.1 (fun _ => fin) (fun q => absurd q (by dsimp only; omega)))
  | succ m ih =>
    intro f t D C A w g K ylc yrb yrk yro ycu ylr hC hf ht hws hww R ok bad
    obtain ⟨f, rfl⟩ : ∃ m, f = m + 1 := ⟨f - 1, by omega⟩
    cases C with
    | nil =>
      have fin := ok D [] A w g K ylc yrb yrk yro ycu ylr rfl hws hww R
      exact pk_le 256 t (fun _ => fin) (fun _ => dy_ptle hL2 R.2.1 (fun _ => fin) (fun q => absurd q (by simp)))
    | cons op C =>
      rw [List.length_cons] at hC ht
      refine br_f (nI_ge (b := 256) (by omega) (by omega)) (dy_ptle hL2 R.2.1 (fun q => absurd q (by simp)) (fun _ => ?_))
      obtain ⟨r1, r2, r3, r4, r5, r6⟩ := R
      refine dy_next (p := 2) (by omega) hL hL2 r2 (fun e => by simp at e) ?_
      intro b C' x e hb h2
      injection e with e1 e2
      subst e1 e2
      have R' : dv_RY N S L ytx yen (D, C, A, w, g, K) ylc yrb yrk yro (upd ycu 2 x) ylr := ⟨dv_PY_un r1 (by omega), h2, dv_PY_un r3 (by omega), r4, r5, r6⟩
      have et : dv_trs N S Src sf sg sp ws wl (m + 1) (D, op :: C, A, w, g, K) = match dv_trn N S Src sf sg sp ws wl op (D, C, A, w, g, K) with
        | .error e => .error e
        | .ok s' => dv_trs N S Src sf sg sp ws wl m s' := rfl
      rw [et] at ok bad
      by_cases lt : op < dv_sz N S
      · obtain ⟨f1, f2, f3, f4⟩ := dv_T_fact N (by omega) S (by omega) op lt
        refine dy_ce (h := 0) hN hS lt (by omega) (fun _ => ?_) (fun q => absurd q (by omega))
        refine dy_ce (h := 1) hN hS lt (by omega) (fun q => absurd q (by omega)) (fun _ => ?_)
        refine br_t (nI_pos' (by omega)) (dy_hlf hL hL2 hN hS hG hSl hln hSs hwl hws hww f1 f3 R' ?_ ?_)
        · intro D' C' A' w' g' K' lc rb rk ro cu lr e1 hw1 hw2 R1
          refine br_t rfl (pk_eq (dv_T2 N S op) 0 (fun z => ?_) (fun nz => ?_))
          · have e3 : dv_trn N S Src sf sg sp ws wl op (D, C, A, w, g, K) = .ok (D', C', A', w', g', K') := by simp only [dv_trn, lt, if_true, e1, z]
            rw [e3] at ok bad
            have lC := dv_hlf_len e1
            exact br_t rfl (nm_r (nI_1 t) (ih _ _ _ _ _ _ _ _ _ _ _ _ _ _ (by omega) (by omega) (by omega) hw1 hw2 R1 ok bad))
          · refine dy_hlf hL hL2 hN hS hG hSl hln hSs hwl hw1 hw2 f2 f4 R1 ?_ ?_
            · intro D2 C2 A2 w2 g2 K2 lc2 rb2 rk2 ro2 cu2 lr2 e2 hw3 hw4 R2
              have e3 : dv_trn N S Src sf sg sp ws wl op (D, C, A, w, g, K) = .ok (D2, C2, A2, w2, g2, K2) := by simp only [dv_trn, lt, if_true, e1, nz, if_false, e2]
              rw [e3] at ok bad
              have lC := dv_hlf_len e1
              have lC2 := dv_hlf_len e2
              exact br_t rfl (nm_r (nI_1 t) (ih _ _ _ _ _ _ _ _ _ _ _ _ _ _ (by omega) (by omega) (by omega) hw3 hw4 R2 ok bad))
            · intro k a lc2 rb2 rk2 ro2 cu2 lr2 h1 h2 e2
              have e3 : dv_trn N S Src sf sg sp ws wl op (D, C, A, w, g, K) = .error k := by simp only [dv_trn, lt, if_true, e1, nz, if_false, e2]
              rw [e3] at bad
              exact br_f (nI_ne0 (by omega) (by omega)) (bad k _ _ _ _ _ _ _ h1 h2 rfl)
        · intro k a lc rb rk ro cu lr h1 h2 e1
          have e3 : dv_trn N S Src sf sg sp ws wl op (D, C, A, w, g, K) = .error k := by simp only [dv_trn, lt, if_true, e1]
          rw [e3] at bad
          exact br_f (nI_ne0 (by omega) (by omega)) (br_f (nI_ne0 (by omega) (by omega)) (bad k _ _ _ _ _ _ _ h1 h2 rfl))
      · have e3 : dv_trn N S Src sf sg sp ws wl op (D, C, A, w, g, K) = .error 6 := by simp only [dv_trn, lt, if_false]
        rw [e3] at bad
        refine dy_ceb hN hS (by omega) (by omega) (dy_ceb hN hS (by omega) (by omega) ?_)
        exact br_f (by decide) (bad 6 _ _ _ _ _ _ _ (by omega) (by omega) rfl)
end
theorem dy_win {post : Int32 → SY → Prop} {H : List Nat} {w : Nat} {g : dv_GT}
    (hL : yln 2 = nI L) (hL2 : L ≤ 256) (hN : N ≤ 4) (hS : S ≤ 3) (htl : tl ≤ 128) (hSl : Src.length ≤ 128) (hln : yln 0 = nI Src.length) (hSs : dv_Seg ytx 0 Src)
    (hen : yen 0 = nI L) (hH : dv_PY ytx ycu yen L 0 H) (hw : w ≤ tl) (hW : dv_WX w g yrb yrk yro)
    (ok : ∀ w' g' H' sf sg sp ws wn lc rb rk ro cu en lr, dv_win N S tl Src w g H = .ok (w', g', H') → w' ≤ tl → H'.length < H.length → en 0 = nI L → dv_PY ytx cu en L 0 H' → dv_WX w' g' rb rk ro →
      post 0 (nI tl, ydl, nI N, nI S, nI w', sf, sg, sp, ws, wn, lc, ytx, yln, ykd, yor, ypa, ypz, rb, rk, ro, cu, en, lr))
    (bad : ∀ k a sf sg sp ws wn lc rb rk ro cu en lr, 1 ≤ k → k ≤ 10 → dv_win N S tl Src w g H = .error k →
      post (nI k) (nI tl, ydl, nI N, nI S, a, sf, sg, sp, ws, wn, lc, ytx, yln, ykd, yor, ypa, ypz, rb, rk, ro, cu, en, lr)) :
    wpY_window post (nI tl, ydl, nI N, nI S, nI w, yin, ysl, yss, yws, ywn, ylc, ytx, yln, ykd, yor, ypa, ypz, yrb, yrk, yro, ycu, yen, ylr) := by
  have hHl : H.length ≤ L := by
    obtain ⟨d, h1, h2, h3, h4⟩ := hH
    omega
  have rest : ∀ sf sg sp H1 cu1, dv_seg Src.length w H = .ok (sf, sg, sp, H1) → dv_PY ytx cu1 yen L 0 H1 →
      wY_window_129 post (nI tl) ydl (nI N) (nI S) (nI w) (nI sf) (nI sg) (nI sp) (nI w) ywn 0 ytx yln ykd yor ypa ypz yrb yrk yro cu1 yen ylr := by
    intro sf sg sp H1 cu1 e1 hH1
    obtain ⟨s1, s2, s3, s4⟩ := dv_seg_ok e1
    refine dy_129 hL hL2 (by omega) htl hen hH1 ?_ ?_
    · intro wl D C A H2 e cu2 en2 e2 z0 ze zs p1 p2 p3 bwl
      obtain ⟨t1, t2⟩ := dv_sec_ok e2
      refine ⟨C.length + 1, dy_355 (ws := w) hL hL2 hN hS ⟨s1, s2, s3⟩ hSl hln hSs (by omega) C.length (C.length + 1) 0 D C A w g dv_K0 _ _ _ _ _ _ (by omega) (by omega) (by omega) (by omega) (by omega) ⟨p1, p2, p3, hW, dv_CY_0, ?_⟩ ?_ ?_⟩
      · show A.length + 0 ≤ 255
        omega
      · intro D' C' A' w' g' K' lc rb rk ro cu lr e3 hw1 hw2 R
        obtain ⟨r1, r2, r3, r4, r5, r6⟩ := R
        unfold wY_window_451
        rw [pk_sub hw1]
        have ew : dv_win N S tl Src w g H = dv_fin w wl H2 (D', C', A', w', g', K') := by
          simp only [dv_win, e1, e2, e3]
        refine pk_lt (w' - w) wl (fun lt => ?_) (fun ge => dy_ptlt hL2 r1 (fun q1 => ?_) (fun q1 => dy_ptle hL2 r3 (fun q3 => nm_e ?_) (fun q3 => ?_)))
        · refine bad 10 _ _ _ _ _ _ _ _ _ _ _ _ _ (by omega) (by omega) ?_
          rw [ew]
          simp only [dv_fin, lt, if_true]
        · refine bad 10 _ _ _ _ _ _ _ _ _ _ _ _ _ (by omega) (by omega) ?_
          rw [ew]
          dsimp only at q1
          simp only [dv_fin, Nat.not_lt.mpr ge, if_false, q1, if_true]
        · dsimp only at q1 q3
          refine ok w' g' H2 _ _ _ _ _ _ _ _ _ _ _ _ ?_ (by omega) (by omega) z0 ⟨e, pk_us, by rw [ze]; exact z0, by omega, zs⟩ r4
          rw [ew]
          simp only [dv_fin, Nat.not_lt.mpr ge, if_false, q1, q3, Nat.lt_irrefl]
        · dsimp only at q1 q3
          refine bad 10 _ _ _ _ _ _ _ _ _ _ _ _ _ (by omega) (by omega) ?_
          rw [ew]
          simp only [dv_fin, Nat.not_lt.mpr ge, if_false, q1, q3, if_true, Nat.lt_irrefl]
      · intro k a lc rb rk ro cu lr h1 h2 e3
        refine bad k _ _ _ _ _ _ _ _ _ _ _ _ _ h1 h2 ?_
        simp only [dv_win, e1, e2, e3]
    · intro k a cu2 h1 h2 e2
      refine bad k _ _ _ _ _ _ _ _ _ _ _ _ _ h1 h2 ?_
      simp only [dv_win, e1, e2]
  unfold wpY_window
  refine dy_next (p := 0) (by omega) hL hL2 hH ?_ ?_
  · intro e
    subst e
    refine br_t (by decide) (bad 2 _ _ _ _ _ _ _ _ _ _ _ _ _ (by omega) (by omega) ?_)
    simp only [dv_win, dv_seg]
  · intro b H1 x e hb hH1
    subst e
    obtain ⟨c1, c2, c3, c4⟩ := dv_bx b hb
    refine br_f c1 ?_
    by_cases z : 2 < b
    · refine br_f (nI_ge (a := 2) z (by omega)) (bad 2 _ _ _ _ _ _ _ _ _ _ _ _ _ (by omega) (by omega) ?_)
      simp only [dv_win, dv_seg, z, if_true]
    · refine br_t (nI_le (b := 2) (by omega) (by omega)) ?_
      by_cases z0 : b = 0
      · subst z0
        exact br_t rfl (rest 0 0 0 H1 _ rfl hH1)
      · refine br_f (nI_ne0 (by omega) (by omega)) (dy_int (p := 0) (by omega) hL hL2 hH1 ?_ ?_)
        · intro sg H2 cu2 e2 b2 hH2 _
          refine br_t (dv_p0 b2) (dy_int (p := 0) (by omega) hL hL2 hH2 ?_ ?_)
          · intro sp H3 cu3 e3 b3 hH3 _
            refine br_t (dv_p0 b3) ?_
            have fin : ∀ av : Nat, av ≤ 128 → av = (if b = 1 then Src.length else w) → wY_window_113 post (nI av) (nI tl) ydl (nI N) (nI S) (nI w) (nI b) (nI sg) (nI sp) (nI w) ywn 0 ytx yln ykd yor ypa ypz yrb yrk yro cu3 yen ylr := by
              intro av ha ea
              unfold wY_window_113
              rw [nI_add]
              refine pk_le (sp + sg) av (fun le => ?_) (fun gt => ?_)
              · refine rest b sg sp H3 _ ?_ hH3
                simp only [dv_seg, z, z0, if_false, e2, e3, ← ea, le, if_true]
              · refine bad 3 _ _ _ _ _ _ _ _ _ _ _ _ _ (by omega) (by omega) ?_
                simp only [dv_win, dv_seg, z, z0, if_false, e2, e3, ← ea, Nat.not_le.mpr gt]
            by_cases z1 : b = 1
            · refine br_t (by rw [z1]; rfl) ?_
              rw [hln]
              exact fin _ hSl (by rw [if_pos z1])
            · refine br_f (fun q => z1 ((nI_eq (b := 1) (by omega) (by omega)).mp q)) ?_
              exact fin w (by omega) (by rw [if_neg z1])
          · intro e3 cu3
            refine br_f (by decide) (bad 1 _ _ _ _ _ _ _ _ _ _ _ _ _ (by omega) (by omega) ?_)
            simp only [dv_win, dv_seg, z, z0, if_false, e2, e3]
        · intro e2 cu2
          refine br_f (by decide) (bad 1 _ _ _ _ _ _ _ _ _ _ _ _ _ (by omega) (by omega) ?_)
          simp only [dv_win, dv_seg, z, z0, if_false, e2]
end
end
section
/-! Y: push, apply -/
section
variable {ytl ydl ync ysc yrl yin ysl yss yws ywn ylc : Int32} {ytx yln ykd yor ypa ypz yrb yrk yro ycu yen ylr : Nat → Int32}
variable {L N S tl : Nat} {Src : List Nat}
theorem dy_push {post : SY → Prop} {r n b : Nat} {v : Int32} (hr : r < 4) (hl : yln r = nI n) (hn : n < 256) (hv : v &&& 255 = nI b)
    (ok : post (ytl, ydl, ync, ysc, yrl, yin, ysl, yss, yws, ywn, ylc, upd ytx (256 * r + n) (nI b), upd yln r (nI (n + 1)), ykd, yor, ypa, ypz, yrb, yrk, yro, ycu, yen, ylr)) : wpY_push post (ytl, ydl, ync, ysc, yrl, yin, ysl, yss, yws, ywn, ylc, ytx, yln, ykd, yor, ypa, ypz, yrb, yrk, yro, ycu, yen, ylr) (nI r) v := by
  unfold wpY_push
  dsimp only
  have e1 : nI r * 256 + nI n = nI (256 * r + n) := by
    rw [show (256 : Int32) = nI 256 from rfl, pk_mul, nI_add, Nat.mul_comm]
  have i : vp_in (nI r) 4 := vp_in_nI hr (by omega)
  rw [nI_clamp (by omega), hl, e1, nI_clamp (by omega), hv, nI_1]
  exact ⟨i, vp_in_nI (by omega) (by omega), nm_e ⟨i, i, nm_e ok⟩⟩
theorem dv_m255 {b : Nat} (h : b < 256) : nI b &&& 255 = nI b := by
  rw [pk_andN (by omega) 8 (by decide), Nat.mod_eq_of_lt h]
theorem dy_ap74 {post : Int32 → SY → Prop} {w : Nat} {g : dv_GT} (hw : w ≤ 128) (hW : dv_WX w g yrb yrk yro) (tx0 ln0 : Nat → Int32) :
    ∀ (m f i : Nat) (ytx yln ykd yor : Nat → Int32), i + m = w → m < f →
    (∀ j, j < i → ytx (768 + j) = nI (g j).1 ∧ ykd j = (g j).2.1 ∧ yor j = (g j).2.2) → (∀ j, j < 768 ∨ 768 + w ≤ j → ytx j = tx0 j) → yln 3 = nI i → (∀ q, q ≠ 3 → yln q = ln0 q) →
    (∀ tx ln kd or, (∀ j, j < w → tx (768 + j) = nI (g j).1 ∧ kd j = (g j).2.1 ∧ or j = (g j).2.2) → (∀ j, j < 768 ∨ 768 + w ≤ j → tx j = tx0 j) → ln 3 = nI w → (∀ q, q ≠ 3 → ln q = ln0 q) → post 0 (ytl, ydl, ync, ysc, nI w, yin, ysl, yss, yws, ywn, ylc, tx, ln, kd, or, ypa, ypz, yrb, yrk, yro, ycu, yen, ylr)) →
    wY_apply_74 post f (nI i) ytl ydl ync ysc (nI w) yin ysl yss yws ywn ylc ytx yln ykd yor ypa ypz yrb yrk yro ycu yen ylr := by
  intro m
  induction m with
  | zero =>
    intro f i ytx yln ykd yor hi hf h1 h2 h3 h4 fin
    obtain ⟨f, rfl⟩ : ∃ m, f = m + 1 := ⟨f - 1, by omega⟩
    obtain rfl : i = w := by omega
    exact br_t (nI_le (by omega) (by omega)) (fin _ _ _ _ h1 h2 h3 h4)
  | succ m ih =>
    intro f i ytx yln ykd yor hi hf h1 h2 h3 h4 fin
    obtain ⟨f, rfl⟩ : ∃ m, f = m + 1 := ⟨f - 1, by omega⟩
    obtain ⟨w1, w2, w3, w4⟩ := hW i (by omega)
    have ii : vp_in (nI i) 128 := vp_in_nI (by omega) (by omega)
    refine br_f (nI_ge (by omega) (by omega)) ⟨ii, ?_⟩
    rw [nI_clamp (by omega), w1]
    refine dy_push (r := 3) (n := i) (b := (g i).1) (by omega) h3 (by omega) (dv_m255 w2) ?_
    refine ⟨ii, ii, nm_e ⟨ii, ii, nm_e (nm_r (nI_1 i) ?_)⟩⟩
    refine ih f (i + 1) _ _ _ _ (by omega) (by omega) ?_ ?_ pk_us ?_ fin
    · intro j hj
      by_cases y : j = i
      · subst y
        rw [pk_us, pk_us, pk_us]
        exact ⟨rfl, w3, w4⟩
      · rw [pk_un y, pk_un y, pk_un (by omega)]
        exact h1 j (by omega)
    · intro j hj
      rw [pk_un (by omega)]
      exact h2 j hj
    · intro q hq
      rw [pk_un hq]
      exact h4 q hq
theorem dy_ap26 {post : Int32 → SY → Prop}
    (hL : yln 2 = nI L) (hL2 : L ≤ 256) (hN : N ≤ 4) (hS : S ≤ 3) (htl : tl ≤ 128) (hSl : Src.length ≤ 128) (hln : yln 0 = nI Src.length) (hSs : dv_Seg ytx 0 Src) :
    ∀ (m f t : Nat) (H : List Nat) (w : Nat) (g : dv_GT) (yin ysl yss yws ywn ylc : Int32) (yrb yrk yro ycu yen ylr : Nat → Int32), H.length ≤ m → m < f → t + H.length ≤ 256 → w ≤ tl →
    yen 0 = nI L → dv_PY ytx ycu yen L 0 H → dv_WX w g yrb yrk yro →
    (∀ w' g' sf sg sp ws wn lc tx ln kd or rb rk ro cu en lr, dv_wns N S tl Src m w g H = .ok (w', g') → w' ≤ tl → dv_WX w' g' rb rk ro →
      (∀ j, j < w' → tx (768 + j) = nI (g' j).1 ∧ kd j = (g' j).2.1 ∧ or j = (g' j).2.2) → (∀ j, j < 768 ∨ 768 + w' ≤ j → tx j = ytx j) → ln 3 = nI w' → (∀ q, q ≠ 3 → ln q = yln q) →
      post 0 (nI tl, ydl, nI N, nI S, nI w', sf, sg, sp, ws, wn, lc, tx, ln, kd, or, ypa, ypz, rb, rk, ro, cu, en, lr)) →
    (∀ k a sf sg sp ws wn lc rb rk ro cu en lr, 1 ≤ k → k ≤ 10 → dv_wns N S tl Src m w g H = .error k →
      post (nI k) (nI tl, ydl, nI N, nI S, a, sf, sg, sp, ws, wn, lc, ytx, yln, ykd, yor, ypa, ypz, rb, rk, ro, cu, en, lr)) →
    wY_apply_26 post f (nI t) (nI tl) ydl (nI N) (nI S) (nI w) yin ysl yss yws ywn ylc ytx yln ykd yor ypa ypz yrb yrk yro ycu yen ylr := by
  have last : ∀ (w : Nat) (g : dv_GT) (yin ysl yss yws ywn ylc : Int32) (yrb yrk yro ycu yen ylr : Nat → Int32), w ≤ tl → dv_WX w g yrb yrk yro →
      (∀ tx ln kd or, (∀ j, j < w → tx (768 + j) = nI (g j).1 ∧ kd j = (g j).2.1 ∧ or j = (g j).2.2) → (∀ j, j < 768 ∨ 768 + w ≤ j → tx j = ytx j) → ln 3 = nI w → (∀ q, q ≠ 3 → ln q = yln q) →
        post 0 (nI tl, ydl, nI N, nI S, nI w, yin, ysl, yss, yws, ywn, ylc, tx, ln, kd, or, ypa, ypz, yrb, yrk, yro, ycu, yen, ylr)) →
      ∀ ln1, ln1 = upd yln 3 0 → ∃ n, wY_apply_74 post n 0 (nI tl) ydl (nI N) (nI S) (nI w) yin ysl yss yws ywn ylc ytx ln1 ykd yor ypa ypz yrb yrk yro ycu yen ylr := by
    intro w g yin ysl yss yws ywn ylc yrb yrk yro ycu yen ylr hw hW fin ln1 e
    subst e
    exact ⟨w + 1, dy_ap74 (by omega) hW ytx yln w (w + 1) 0 _ _ _ _ (by omega) (by omega) (fun j hj => absurd hj (Nat.not_lt_zero j)) (fun j _ => rfl) pk_us (fun q hq => pk_un hq) fin⟩
  intro m
  induction m with
  | zero =>
    intro f t H w g yin ysl yss yws ywn ylc yrb yrk yro ycu yen ylr hH hf ht hw hen hP hW ok bad
    obtain ⟨f, rfl⟩ : ∃ m, f = m + 1 := ⟨f - 1, by omega⟩
    have fin := last w g yin ysl yss yws ywn ylc yrb yrk yro ycu yen ylr hw hW fun tx ln kd or => ok w g _ _ _ _ _ _ tx ln kd or _ _ _ _ _ _ rfl hw hW
    exact pk_le 256 t (fun _ => fin) (fun _ => dy_ptle hL2 hP (fun _ => fin) (fun q => absurd q (by omega)))
  | succ m ih =>
    intro f t H w g yin ysl yss yws ywn ylc yrb yrk yro ycu yen ylr hH hf ht hw hen hP hW ok bad
    obtain ⟨f, rfl⟩ : ∃ m, f = m + 1 := ⟨f - 1, by omega⟩
    cases H with
    | nil =>
      have fin := last w g yin ysl yss yws ywn ylc yrb yrk yro ycu yen ylr hw hW fun tx ln kd or => ok w g _ _ _ _ _ _ tx ln kd or _ _ _ _ _ _ rfl hw hW
      exact pk_le 256 t (fun _ => fin) (fun _ => dy_ptle hL2 hP (fun _ => fin) (fun q => absurd q (by simp)))
    | cons b H =>
      rw [List.length_cons] at hH ht
      refine br_f (nI_ge (b := 256) (by omega) (by omega)) (dy_ptle hL2 hP (fun q => absurd q (by simp)) (fun _ => ?_))
      have et : dv_wns N S tl Src (m + 1) w g (b :: H) = match dv_win N S tl Src w g (b :: H) with
        | .error e => .error e
        | .ok (w', g', H') => dv_wns N S tl Src m w' g' H' := rfl
      rw [et] at ok bad
      refine dy_win hL hL2 hN hS htl hSl hln hSs hen hP hw hW ?_ ?_
      · intro w' g' H' sf sg sp ws wn lc rb rk ro cu en lr e1 hw' hl hen' hP' hW'
        rw [e1] at ok bad
        rw [List.length_cons] at hl
        exact br_t rfl (nm_r (nI_1 t) (ih _ _ _ _ _ _ _ _ _ _ _ _ _ _ _ _ _ (by omega) (by omega) (by omega) hw' hen' hP' hW' ok bad))
      · intro k a sf sg sp ws wn lc rb rk ro cu en lr h1 h2 e1
        rw [e1] at bad
        exact br_f (nI_ne0 (by omega) (by omega)) (bad k _ _ _ _ _ _ _ _ _ _ _ _ _ h1 h2 rfl)
theorem dy_apply {post : Int32 → SY → Prop} {H : List Nat}
    (hN : N ≤ 4) (hS : S ≤ 3) (htl : tl ≤ 128) (hSl : Src.length ≤ 128) (hln : yln 0 = nI Src.length) (hSs : dv_Seg ytx 0 Src)
    (hHl : H.length ≤ 256) (hHn : yln 2 = nI H.length) (hH : dv_Seg ytx 512 H)
    (ok : ∀ w' g' sf sg sp ws wn lc tx ln kd or rb rk ro cu en lr, dv_dec N S tl Src H = .ok (w', g') → w' ≤ tl → dv_WX w' g' rb rk ro →
      (∀ j, j < w' → tx (768 + j) = nI (g' j).1 ∧ kd j = (g' j).2.1 ∧ or j = (g' j).2.2) → (∀ j, j < 768 ∨ 768 + w' ≤ j → tx j = ytx j) → ln 3 = nI w' → (∀ q, q ≠ 3 → ln q = yln q) →
      post 0 (nI tl, ydl, nI N, nI S, nI w', sf, sg, sp, ws, wn, lc, tx, ln, kd, or, ypa, ypz, rb, rk, ro, cu, en, lr))
    (bad : ∀ k a sf sg sp ws wn lc rb rk ro cu en lr, 1 ≤ k → k ≤ 10 → dv_dec N S tl Src H = .error k →
      post (nI k) (nI tl, ydl, nI N, nI S, a, sf, sg, sp, ws, wn, lc, ytx, yln, ykd, yor, ypa, ypz, rb, rk, ro, cu, en, lr)) :
    wpY_apply post (nI tl, ydl, nI N, nI S, yrl, yin, ysl, yss, yws, ywn, ylc, ytx, yln, ykd, yor, ypa, ypz, yrb, yrk, yro, ycu, yen, ylr) := by
  unfold wpY_apply
  dsimp only
  rw [hHn]
  refine nm_e (nm_e ⟨H.length + 1, ?_⟩)
  exact dy_ap26 hHn hHl hN hS htl hSl hln hSs H.length (H.length + 1) 0 H 0 dv_g0 _ _ _ _ _ _ _ _ _ _ _ _ (by omega) (by omega) (by omega) (by omega) pk_us
    ⟨0, rfl, by rw [Nat.zero_add]; rfl, by omega, hH⟩ (fun j hj => absurd hj (Nat.not_lt_zero j)) ok bad
end
end
section
/-! the relation -/
def dv_ap (tx : Nat → List Nat) (r : Nat) (M : List Nat) : Nat → List Nat := fun q => if q = r then tx r ++ M else tx q
theorem dv_ap_s {tx : Nat → List Nat} {r : Nat} {M : List Nat} : dv_ap tx r M r = tx r ++ M := if_pos rfl
theorem dv_ap_n {tx : Nat → List Nat} {r q : Nat} {M : List Nat} (h : q ≠ r) : dv_ap tx r M q = tx q := if_neg h
theorem dv_ap_ap {tx : Nat → List Nat} {r : Nat} {M M' : List Nat} : dv_ap (dv_ap tx r M) r M' = dv_ap tx r (M ++ M') := by
  funext q
  by_cases h : q = r
  · subst h; rw [dv_ap_s, dv_ap_s, dv_ap_s, List.append_assoc]
  · rw [dv_ap_n h, dv_ap_n h, dv_ap_n h]
theorem dv_ap_nil {tx : Nat → List Nat} {r : Nat} : dv_ap tx r [] = tx := by
  funext q
  by_cases h : q = r
  · subst h; rw [dv_ap_s, List.append_nil]
  · rw [dv_ap_n h]
def dv_up (tx : Nat → List Nat) (r : Nat) (t : List Nat) : Nat → List Nat := fun q => if q = r then t else tx q
theorem dv_up_s {tx : Nat → List Nat} {r : Nat} {t : List Nat} : dv_up tx r t r = t := if_pos rfl
theorem dv_up_n {tx : Nat → List Nat} {r q : Nat} {t : List Nat} (h : q ≠ r) : dv_up tx r t q = tx q := if_neg h
def dv_TX (tx : Nat → List Nat) (st ln : Nat → Int32) : Prop := ∀ r, r < 4 → ln r = nI (tx r).length ∧ dv_Seg st (512 * r) (tx r)
def dv_TY (tx : Nat → List Nat) (ts ln : Nat → Int32) : Prop := ∀ r, r < 4 → ln r = nI (tx r).length ∧ dv_Seg ts (256 * r) (tx r)
def dv_lim (tl dl r : Nat) : Nat := if r = 2 then dl else tl
def dv_LM (tl dl : Nat) (tx : Nat → List Nat) : Prop := ∀ r, r < 4 → (tx r).length ≤ dv_lim tl dl r
def dv_DK (N S tl : Nat) (Src H P : List Nat) : Prop := ∀ M : List Nat, ∃ g : dv_GT, dv_dec N S tl (Src ++ M) H = .ok (P.length, g) ∧ ∀ j, j < P.length → (g j).1 = dv_gl P j
theorem dv_DK_m {N S tl : Nat} {Src H P M : List Nat} (h : dv_DK N S tl Src H P) : dv_DK N S tl (Src ++ M) H P := fun M' => by
  rw [List.append_assoc]; exact h _
def dv_PR (N S tl : Nat) (Src : List Nat) (s : Nat) (st ln pz pa yz : Nat → Int32) : Prop :=
  (pz s = -1 ∧ yz s = -1) ∨ ∃ P H : List Nat, P.length ≤ tl ∧ pz s = nI P.length ∧ yz s = nI P.length ∧ dv_Seg pa (128 * s) P ∧ ln (4 + s) = nI H.length ∧ H.length ≤ 512 ∧ dv_Seg st (512 * (4 + s)) H ∧ dv_DK N S tl Src H P
def dv_PM (tl dl N S : Nat) : Prop := 8 ≤ tl ∧ tl ≤ 128 ∧ 16 ≤ dl ∧ dl ≤ 256 ∧ N ≤ 4 ∧ S ≤ 3
def dv_Fa (tl dl N S : Nat) (tx : Nat → List Nat) (xst xln xok xoo xpz xfh xsh ytx yln ykd yor ypa ypz : Nat → Int32) : Prop :=
  dv_PM tl dl N S ∧ dv_LM tl dl tx ∧ dv_TX tx xst xln ∧ dv_TY tx ytx yln ∧ dv_TB N S xfh xsh ∧ (∀ j, j < (tx 3).length → xok j = ykd j ∧ xoo j = yor j) ∧ (∀ s, s < 2 → dv_PR N S tl (tx 0) s xst xln xpz ypa ypz)
def i_Rel (k : Nat) (u : SX) (v : SY) : Prop := match u with
  | (xq0, xq1, xq2, xq3, xq4, xq5, xq6, xtl, xdl, xnc, xsc, xts, xni, xwl, xsf, xsl, xss, xws, xwn, xpn, xle, xla, xbk, xbz, xba, xbg, xst, xln, xok, xoo, xpz, xfh, xsh, xne, xsm, xwb, xwk, xwo, xcu, xsp, xsa, xpv, xch, xpt, xpl) => match v with
    | (ytl, ydl, ync, ysc, yrl, yin, ysl, yss, yws, ywn, ylc, ytx, yln, ykd, yor, ypa, ypz, yrb, yrk, yro, ycu, yen, ylr) => ∃ (tl dl N S : Nat) (tx : Nat → List Nat), (xtl = nI tl ∧ xdl = nI dl ∧ xnc = nI N ∧ xsc = nI (16 * S) ∧ xts = nI (dv_sz N S)) ∧ (ytl = nI tl ∧ ydl = nI dl ∧ ync = nI N ∧ ysc = nI S) ∧
      dv_Fa tl dl N S tx xst xln xok xoo xpz xfh xsh ytx yln ykd yor ypa ypz
theorem i_up {k : Nat} {u : SX} {v : SY} (h : i_Rel k u v) : i_Rel (k + 4) u v := h
theorem dv_el {P : SX → SY → Prop} {k : Nat} {u : SX} {v : SY} (I : i_Rel k u v)
    (h : ∀ (xq0 xq1 xq2 xq3 xq4 xq5 xq6 xtl xdl xnc xsc xts xni xwl xsf xsl xss xws xwn xpn xle xla xbk xbz xba xbg : Int32) (xst xln xok xoo xpz xfh xsh xne xsm xwb xwk xwo xcu xsp xsa xpv xch xpt xpl : Nat → Int32) (ytl ydl ync ysc yrl yin ysl yss yws ywn ylc : Int32) (ytx yln ykd yor ypa ypz yrb yrk yro ycu yen ylr : Nat → Int32) (tl dl N S : Nat) (tx : Nat → List Nat), dv_Fa tl dl N S tx xst xln xok xoo xpz xfh xsh ytx yln ykd yor ypa ypz → P (xq0, xq1, xq2, xq3, xq4, xq5, xq6, nI tl, nI dl, nI N, nI (16 * S), nI (dv_sz N S), xni, xwl, xsf, xsl, xss, xws, xwn, xpn, xle, xla, xbk, xbz, xba, xbg, xst, xln, xok, xoo, xpz, xfh, xsh, xne, xsm, xwb, xwk, xwo, xcu, xsp, xsa, xpv, xch, xpt, xpl) (nI tl, nI dl, nI N, nI S, yrl, yin, ysl, yss, yws, ywn, ylc, ytx, yln, ykd, yor, ypa, ypz, yrb, yrk, yro, ycu, yen, ylr)) : P u v := by
  obtain ⟨xq0, xq1, xq2, xq3, xq4, xq5, xq6, xtl, xdl, xnc, xsc, xts, xni, xwl, xsf, xsl, xss, xws, xwn, xpn, xle, xla, xbk, xbz, xba, xbg, xst, xln, xok, xoo, xpz, xfh, xsh, xne, xsm, xwb, xwk, xwo, xcu, xsp, xsa, xpv, xch, xpt, xpl⟩ := u
  obtain ⟨ytl, ydl, ync, ysc, yrl, yin, ysl, yss, yws, ywn, ylc, ytx, yln, ykd, yor, ypa, ypz, yrb, yrk, yro, ycu, yen, ylr⟩ := v
  obtain ⟨tl, dl, N, S, tx, ⟨e1, e2, e3, e4, e5⟩, ⟨e6, e7, e8, e9⟩, F⟩ := I
  subst e1 e2 e3 e4 e5 e6 e7 e8 e9
  exact h xq0 xq1 xq2 xq3 xq4 xq5 xq6 0 0 0 0 0 xni xwl xsf xsl xss xws xwn xpn xle xla xbk xbz xba xbg xst xln xok xoo xpz xfh xsh xne xsm xwb xwk xwo xcu xsp xsa xpv xch xpt xpl 0 0 0 0 yrl yin ysl yss yws ywn ylc ytx yln ykd yor ypa ypz yrb yrk yro ycu yen ylr tl dl N S tx F
section
variable {xq0 xq1 xq2 xq3 xq4 xq5 xq6 xtl xdl xnc xsc xts xni xwl xsf xsl xss xws xwn xpn xle xla xbk xbz xba xbg : Int32} {xst xln xok xoo xpz xfh xsh xne xsm xwb xwk xwo xcu xsp xsa xpv xch xpt xpl : Nat → Int32}
variable {ytl ydl ync ysc yrl yin ysl yss yws ywn ylc : Int32} {ytx yln ykd yor ypa ypz yrb yrk yro ycu yen ylr : Nat → Int32}
variable {tl dl N S : Nat} {tx : Nat → List Nat}
theorem dv_in {k : Nat} (F : dv_Fa tl dl N S tx xst xln xok xoo xpz xfh xsh ytx yln ykd yor ypa ypz) : i_Rel k (xq0, xq1, xq2, xq3, xq4, xq5, xq6, nI tl, nI dl, nI N, nI (16 * S), nI (dv_sz N S), xni, xwl, xsf, xsl, xss, xws, xwn, xpn, xle, xla, xbk, xbz, xba, xbg, xst, xln, xok, xoo, xpz, xfh, xsh, xne, xsm, xwb, xwk, xwo, xcu, xsp, xsa, xpv, xch, xpt, xpl) (nI tl, nI dl, nI N, nI S, yrl, yin, ysl, yss, yws, ywn, ylc, ytx, yln, ykd, yor, ypa, ypz, yrb, yrk, yro, ycu, yen, ylr) :=
  ⟨tl, dl, N, S, tx, ⟨rfl, rfl, rfl, rfl, rfl⟩, ⟨rfl, rfl, rfl, rfl⟩, F⟩
theorem dv_keep {tx' : Nat → List Nat} {M : List Nat} {st ln ok oo ts yl kd or : Nat → Int32} (F : dv_Fa tl dl N S tx xst xln xok xoo xpz xfh xsh ytx yln ykd yor ypa ypz)
    (h0 : tx' 0 = tx 0 ++ M) (h1 : dv_LM tl dl tx') (h2 : dv_TX tx' st ln) (h3 : ∀ j, 2048 ≤ j → st j = xst j) (h4 : ∀ q, 4 ≤ q → ln q = xln q) (h5 : dv_TY tx' ts yl)
    (h6 : ∀ j, j < (tx' 3).length → ok j = kd j ∧ oo j = or j) : dv_Fa tl dl N S tx' st ln ok oo xpz xfh xsh ts yl kd or ypa ypz := by
  obtain ⟨f1, f2, f3, f4, f5, f6, f7⟩ := F
  refine ⟨f1, h1, h2, h5, f5, h6, fun s hs => ?_⟩
  rcases f7 s hs with h | ⟨P, H, p1, p2, p3, p4, p5, p6, p7, p8⟩
  · exact Or.inl h
  · refine Or.inr ⟨P, H, p1, p2, p3, p4, (h4 _ (by omega)).trans p5, p6, dv_Seg_eq p7 fun i _ => h3 _ (by omega), ?_⟩
    rw [h0]
    exact dv_DK_m p8
theorem dv_free {tx' : Nat → List Nat} {st ln ok oo ts yl kd or pz yz : Nat → Int32} (F : dv_Fa tl dl N S tx xst xln xok xoo xpz xfh xsh ytx yln ykd yor ypa ypz)
    (h1 : dv_LM tl dl tx') (h2 : dv_TX tx' st ln) (h5 : dv_TY tx' ts yl)
    (h6 : ∀ j, j < (tx' 3).length → ok j = kd j ∧ oo j = or j) (h7 : ∀ s, s < 2 → pz s = -1 ∧ yz s = -1) : dv_Fa tl dl N S tx' st ln ok oo pz xfh xsh ts yl kd or ypa yz := by
  obtain ⟨f1, f2, f3, f4, f5, f6, f7⟩ := F
  exact ⟨f1, h1, h2, h5, f5, h6, fun s hs => Or.inl (h7 s hs)⟩
end
theorem dv_TX_push {tx : Nat → List Nat} {st ln : Nat → Int32} {r b : Nat} (h : dv_TX tx st ln) (hr : r < 4) (hb : b < 256) (hl : (tx r).length < 512) (hall : ∀ q, q < 4 → (tx q).length ≤ 512) :
    dv_TX (dv_ap tx r [b]) (upd st (512 * r + (tx r).length) (nI b)) (upd ln r (nI ((tx r).length + 1))) := fun q hq => by
  obtain ⟨h1, h2⟩ := h q hq
  have hh := hall q hq
  by_cases z : q = r
  · subst z
    rw [dv_ap_s, pk_us, List.length_append]
    exact ⟨rfl, dv_Seg_push h2 hb⟩
  · rw [dv_ap_n z, pk_un z]
    refine ⟨h1, dv_Seg_out h2 ?_⟩
    rcases Nat.lt_or_gt_of_ne z with y | y
    · right
      have : 512 * q + 512 ≤ 512 * r := by omega
      omega
    · left
      have : 512 * r + 512 ≤ 512 * q := by omega
      omega
theorem dv_TY_push {tx : Nat → List Nat} {ts ln : Nat → Int32} {r b : Nat} (h : dv_TY tx ts ln) (hr : r < 4) (hb : b < 256) (hl : (tx r).length < 256) (hall : ∀ q, q < 4 → (tx q).length ≤ 256) :
    dv_TY (dv_ap tx r [b]) (upd ts (256 * r + (tx r).length) (nI b)) (upd ln r (nI ((tx r).length + 1))) := fun q hq => by
  obtain ⟨h1, h2⟩ := h q hq
  have hh := hall q hq
  by_cases z : q = r
  · subst z
    rw [dv_ap_s, pk_us, List.length_append]
    exact ⟨rfl, dv_Seg_push h2 hb⟩
  · rw [dv_ap_n z, pk_un z]
    refine ⟨h1, dv_Seg_out h2 ?_⟩
    rcases Nat.lt_or_gt_of_ne z with y | y
    · right
      have : 256 * q + 256 ≤ 256 * r := by omega
      omega
    · left
      have : 256 * r + 256 ≤ 256 * q := by omega
      omega
/-- texts after m pushes into row r, the k-th of them the byte f tx k -/
def dv_bs (f : (Nat → List Nat) → Nat → Nat) (r : Nat) : Nat → Nat → (Nat → List Nat) → (Nat → List Nat)
  | 0, _, tx => tx
  | m + 1, k, tx => dv_bs f r m (k + 1) (dv_ap tx r [f tx k])
theorem dv_bs_ex {f : (Nat → List Nat) → Nat → Nat} {r : Nat} : ∀ (m k : Nat) (tx : Nat → List Nat), ∃ M : List Nat, M.length = m ∧ dv_bs f r m k tx = dv_ap tx r M
  | 0, k, tx => ⟨[], rfl, dv_ap_nil.symm⟩
  | m + 1, k, tx => by
    obtain ⟨M, h1, h2⟩ := dv_bs_ex (f := f) (r := r) m (k + 1) (dv_ap tx r [f tx k])
    refine ⟨[f tx k] ++ M, by simp [h1], ?_⟩
    show dv_bs f r m (k + 1) _ = _
    rw [h2, dv_ap_ap]
def dv_BL (tx : Nat → List Nat) (r n : Nat) : Prop := (tx r).length ≤ n ∧ ∀ q, q < 4 → (tx q).length ≤ 256
theorem dv_BL_s {tx : Nat → List Nat} {r n b : Nat} (h : dv_BL tx r n) (hn : n < 256) : dv_BL (dv_ap tx r [b]) r (n + 1) := by
  obtain ⟨h1, h2⟩ := h
  refine ⟨by rw [dv_ap_s, List.length_append, List.length_singleton]; omega, fun q hq => ?_⟩
  by_cases z : q = r
  · rw [z, dv_ap_s, List.length_append, List.length_singleton]; omega
  · rw [dv_ap_n z]; exact h2 q hq
end
section
/-! pushes into a text: X and Y -/
section
variable {xq0 xq1 xq2 xq3 xq4 xq5 xq6 xtl xdl xnc xsc xts xni xwl xsf xsl xss xws xwn xpn xle xla xbk xbz xba xbg : Int32} {xst xln xok xoo xpz xfh xsh xne xsm xwb xwk xwo xcu xsp xsa xpv xch xpt xpl : Nat → Int32}
theorem dx_push {post : SX → Prop} {r b n : Nat} {v : Int32} (hr : r < 4) (hl : xln r = nI n) (hn : n < 512) (hv : v &&& 255 = nI b)
    (ok : post (xq0, xq1, xq2, xq3, xq4, xq5, xq6, xtl, xdl, xnc, xsc, xts, xni, xwl, xsf, xsl, xss, xws, xwn, xpn, xle, xla, xbk, xbz, xba, xbg, upd xst (512 * r + n) (nI b), upd xln r (nI (n + 1)), xok, xoo, xpz, xfh, xsh, xne, xsm, xwb, xwk, xwo, xcu, xsp, xsa, xpv, xch, xpt, xpl)) : wpX_push post (xq0, xq1, xq2, xq3, xq4, xq5, xq6, xtl, xdl, xnc, xsc, xts, xni, xwl, xsf, xsl, xss, xws, xwn, xpn, xle, xla, xbk, xbz, xba, xbg, xst, xln, xok, xoo, xpz, xfh, xsh, xne, xsm, xwb, xwk, xwo, xcu, xsp, xsa, xpv, xch, xpt, xpl) (nI r) v := by
  unfold wpX_push
  dsimp only
  have e1 : nI r * 512 + nI n = nI (512 * r + n) := by
    rw [show (512 : Int32) = nI 512 from rfl, pk_mul, nI_add, Nat.mul_comm]
  have i : vp_in (nI r) 6 := vp_in_nI (by omega) (by omega)
  rw [nI_clamp (by omega), hl, e1, nI_clamp (by omega), hv, nI_1]
  exact ⟨i, vp_in_nI (by omega) (by omega), nm_e ⟨i, i, nm_e ok⟩⟩
theorem dx_free {post : SX → Prop} (ok : ∀ pz ln, (∀ s, s < 2 → pz s = -1) → (∀ q, q < 4 → ln q = xln q) → post (xq0, xq1, xq2, xq3, xq4, xq5, xq6, xtl, xdl, xnc, xsc, xts, xni, xwl, xsf, xsl, xss, xws, xwn, xpn, xle, xla, xbk, xbz, xba, xbg, xst, ln, xok, xoo, pz, xfh, xsh, xne, xsm, xwb, xwk, xwo, xcu, xsp, xsa, xpv, xch, xpt, xpl)) : wpX_freePatches post (xq0, xq1, xq2, xq3, xq4, xq5, xq6, xtl, xdl, xnc, xsc, xts, xni, xwl, xsf, xsl, xss, xws, xwn, xpn, xle, xla, xbk, xbz, xba, xbg, xst, xln, xok, xoo, xpz, xfh, xsh, xne, xsm, xwb, xwk, xwo, xcu, xsp, xsa, xpv, xch, xpt, xpl) := by
  unfold wpX_freePatches
  dsimp only
  refine ⟨3, ?_⟩
  refine br_f (by decide) ⟨vp_in_nI (n := 0) (by omega) (by omega), nm_e ⟨vp_in_nI (n := 4) (by omega) (by omega), nm_e (nm_r (e' := nI 1) rfl ?_)⟩⟩
  refine br_f (by decide) ⟨vp_in_nI (n := 1) (by omega) (by omega), nm_e ⟨vp_in_nI (n := 5) (by omega) (by omega), nm_e (nm_r (e' := nI 2) rfl ?_)⟩⟩
  refine br_t (by decide) (ok _ _ ?_ ?_)
  · intro s hs
    have : s = 0 ∨ s = 1 := by omega
    rcases this with rfl | rfl <;> rfl
  · intro q hq
    show upd (upd xln 4 0) 5 0 q = xln q
    rw [pk_un (by omega), pk_un (by omega)]
def dv_XT (tx : Nat → List Nat) (st0 ln0 st ln : Nat → Int32) : Prop := dv_TX tx st ln ∧ (∀ j, 2048 ≤ j → st j = st0 j) ∧ (∀ q, 4 ≤ q → ln q = ln0 q)
theorem dv_XT_push {tx : Nat → List Nat} {st0 ln0 st ln : Nat → Int32} {r b n : Nat} (h : dv_XT tx st0 ln0 st ln) (hr : r < 4) (hb : b < 256) (hB : dv_BL tx r n) (hn : n < 256) :
    dv_XT (dv_ap tx r [b]) st0 ln0 (upd st (512 * r + (tx r).length) (nI b)) (upd ln r (nI ((tx r).length + 1))) := by
  obtain ⟨h1, h2, h3⟩ := h
  obtain ⟨b1, b2⟩ := hB
  refine ⟨dv_TX_push h1 hr hb (by omega) (fun q hq => Nat.le_trans (b2 q hq) (by omega)), fun j hj => ?_, fun q hq => ?_⟩
  · rw [pk_un (by omega)]; exact h2 j hj
  · rw [pk_un (by omega)]; exact h3 q hq
section
variable {st0 ln0 : Nat → Int32} {f : (Nat → List Nat) → Nat → Nat} {r : Nat}
theorem dx_run27 {post : Int32 → SX → Prop} {v : Int32} {b c : Nat} (hr : r < 4) (hb : b < 256) (hv : v &&& 255 = nI b) (hc : c ≤ 256) :
    ∀ (m n k : Nat) (tx : Nat → List Nat) (xst xln : Nat → Int32), k + m = c → m < n → dv_BL tx r (256 - m) → dv_XT tx st0 ln0 xst xln →
    (∀ st ln, dv_XT (dv_bs (fun _ _ => b) r m k tx) st0 ln0 st ln → post 1 (xq0, xq1, xq2, xq3, xq4, xq5, xq6, xtl, xdl, xnc, xsc, xts, xni, xwl, xsf, xsl, xss, xws, xwn, xpn, xle, xla, xbk, xbz, xba, xbg, st, ln, xok, xoo, xpz, xfh, xsh, xne, xsm, xwb, xwk, xwo, xcu, xsp, xsa, xpv, xch, xpt, xpl)) → wX_appendRun_27 post (nI r) v (nI c) n (nI k) xq0 xq1 xq2 xq3 xq4 xq5 xq6 xtl xdl xnc xsc xts xni xwl xsf xsl xss xws xwn xpn xle xla xbk xbz xba xbg xst xln xok xoo xpz xfh xsh xne xsm xwb xwk xwo xcu xsp xsa xpv xch xpt xpl := by
  intro m
  induction m with
  | zero =>
    intro n k tx xst xln hk hn hB hX ok
    obtain ⟨n, rfl⟩ : ∃ m, n = m + 1 := ⟨n - 1, by omega⟩
    exact br_t (nI_le (by omega) (by omega)) (ok _ _ hX)
  | succ m ih =>
    intro n k tx xst xln hk hn hB hX ok
    obtain ⟨n, rfl⟩ : ∃ m, n = m + 1 := ⟨n - 1, by omega⟩
    refine br_f (nI_ge (by omega) (by omega)) (dx_push hr (hX.1 r hr).1 (by have := hB.1; omega) hv (nm_r (nI_1 k) (ih n (k + 1) (dv_ap tx r [b]) _ _ (by omega) (by omega) ?_ (dv_XT_push hX hr hb hB (by omega)) ok)))
    have := dv_BL_s (b := b) hB (by omega)
    rw [show 256 - (m + 1) + 1 = 256 - m by omega] at this
    exact this
theorem dx_wrd32 {post : Int32 → SX → Prop} {v : Int32} {fb : Nat → Nat} {c : Nat} (hr : r < 4) (hb : ∀ k, fb k < 256)
    (hv : ∀ k, k < c → (v.toUInt32 >>> ((24 - 8 * nI k).toUInt32 &&& Int32.toUInt32 31)).toInt32 &&& 255 = nI (fb k)) (hc : c ≤ 256) :
    ∀ (m n k : Nat) (tx : Nat → List Nat) (xst xln : Nat → Int32), k + m = c → m < n → dv_BL tx r (256 - m) → dv_XT tx st0 ln0 xst xln →
    (∀ st ln, dv_XT (dv_bs (fun _ k => fb k) r m k tx) st0 ln0 st ln → post 1 (xq0, xq1, xq2, xq3, xq4, xq5, xq6, xtl, xdl, xnc, xsc, xts, xni, xwl, xsf, xsl, xss, xws, xwn, xpn, xle, xla, xbk, xbz, xba, xbg, st, ln, xok, xoo, xpz, xfh, xsh, xne, xsm, xwb, xwk, xwo, xcu, xsp, xsa, xpv, xch, xpt, xpl)) → wX_appendWord_32 post (nI r) v (nI c) n (nI k) xq0 xq1 xq2 xq3 xq4 xq5 xq6 xtl xdl xnc xsc xts xni xwl xsf xsl xss xws xwn xpn xle xla xbk xbz xba xbg xst xln xok xoo xpz xfh xsh xne xsm xwb xwk xwo xcu xsp xsa xpv xch xpt xpl := by
  intro m
  induction m with
  | zero =>
    intro n k tx xst xln hk hn hB hX ok
    obtain ⟨n, rfl⟩ : ∃ m, n = m + 1 := ⟨n - 1, by omega⟩
    exact br_t (nI_le (by omega) (by omega)) (ok _ _ hX)
  | succ m ih =>
    intro n k tx xst xln hk hn hB hX ok
    obtain ⟨n, rfl⟩ : ∃ m, n = m + 1 := ⟨n - 1, by omega⟩
    refine br_f (nI_ge (by omega) (by omega)) (nm_e (dx_push hr (hX.1 r hr).1 (by have := hB.1; omega) (hv k (by omega)) (nm_r (nI_1 k) (ih n (k + 1) (dv_ap tx r [fb k]) _ _ (by omega) (by omega) ?_ (dv_XT_push hX hr (hb k) hB (by omega)) ok))))
    have := dv_BL_s (b := fb k) hB (by omega)
    rw [show 256 - (m + 1) + 1 = 256 - m by omega] at this
    exact this
end
def dv_cf (a : Nat) (tx : Nat → List Nat) (k : Nat) : Nat := dv_gl (tx 0 ++ tx 1) (a + k)
theorem dx_cpy44 {post : Int32 → SX → Prop} {st0 ln0 : Nat → Int32} {a c s : Nat} (hc : c ≤ 128) :
    ∀ (m n k : Nat) (tx : Nat → List Nat) (xst xln : Nat → Int32), k + m = c → m < n → (tx 0).length = s → a + k < s + (tx 1).length → dv_BL tx 1 (256 - m) → dv_XT tx st0 ln0 xst xln →
    (∀ st ln, dv_XT (dv_bs (dv_cf a) 1 m k tx) st0 ln0 st ln → post 1 (xq0, xq1, xq2, xq3, xq4, xq5, xq6, xtl, xdl, xnc, xsc, xts, xni, xwl, xsf, xsl, xss, xws, xwn, xpn, xle, xla, xbk, xbz, xba, xbg, st, ln, xok, xoo, xpz, xfh, xsh, xne, xsm, xwb, xwk, xwo, xcu, xsp, xsa, xpv, xch, xpt, xpl)) → wX_appendCopy_44 post (nI a) (nI c) (nI s) n (nI k) xq0 xq1 xq2 xq3 xq4 xq5 xq6 xtl xdl xnc xsc xts xni xwl xsf xsl xss xws xwn xpn xle xla xbk xbz xba xbg xst xln xok xoo xpz xfh xsh xne xsm xwb xwk xwo xcu xsp xsa xpv xch xpt xpl := by
  intro m
  induction m with
  | zero =>
    intro n k tx xst xln hk hn hs ha hB hX ok
    obtain ⟨n, rfl⟩ : ∃ m, n = m + 1 := ⟨n - 1, by omega⟩
    exact br_t (nI_le (by omega) (by omega)) (ok _ _ hX)
  | succ m ih =>
    intro n k tx xst xln hk hn hs ha hB hX ok
    obtain ⟨n, rfl⟩ : ∃ m, n = m + 1 := ⟨n - 1, by omega⟩
    have h0 := (hX.1 0 (by omega)).2
    have h1 := (hX.1 1 (by omega)).2
    have b0 := hB.2 0 (by omega)
    have b1 := hB.1
    have go : ∀ cell, cell < 3072 → xst cell = nI (dv_cf a tx k) → dv_cf a tx k < 256 → wX_appendCopy_77 post (wX_appendCopy_44 post (nI a) (nI c) (nI s) n) (nI a) (nI c) (nI s) (nI k) (nI cell) xq0 xq1 xq2 xq3 xq4 xq5 xq6 xtl xdl xnc xsc xts xni xwl xsf xsl xss xws xwn xpn xle xla xbk xbz xba xbg xst xln xok xoo xpz xfh xsh xne xsm xwb xwk xwo xcu xsp xsa xpv xch xpt xpl := by
      intro cell hcell e hb
      unfold wX_appendCopy_77
      rw [nI_clamp (by omega), e]
      refine ⟨vp_in_nI hcell (by omega), dx_push (r := 1) (by omega) (hX.1 1 (by omega)).1 (by omega) (dv_m255 hb) (nm_r (nI_1 k) (ih n (k + 1) (dv_ap tx 1 [dv_cf a tx k]) _ _ (by omega) (by omega) ?_ ?_ ?_ (dv_XT_push hX (by omega) hb hB (by omega)) ok))⟩
      · rw [dv_ap_n (by omega)]; exact hs
      · rw [dv_ap_s, List.length_append, List.length_singleton]; omega
      · have := dv_BL_s (b := dv_cf a tx k) hB (by omega)
        rw [show 256 - (m + 1) + 1 = 256 - m by omega] at this
        exact this
    refine br_f (nI_ge (by omega) (by omega)) (nm_r (nI_add a k) (pk_le s (a + k) (fun le => ?_) (fun lt => ?_)))
    · rw [show (512 : Int32) + nI (a + k) = nI (512 + (a + k)) from nI_add 512 (a + k), pk_sub (a := 512 + (a + k)) (b := s) (by omega)]
      have e : dv_cf a tx k = dv_gl (tx 1) (a + k - s) := by
        unfold dv_cf
        have := dv_gl_r (t := tx 1) (tx 0) (a + k - s)
        rw [hs, show s + (a + k - s) = a + k by omega] at this
        exact this
      obtain ⟨q1, q2⟩ := h1 (a + k - s) (by omega)
      refine go _ (by omega) ?_ ?_
      · rw [e, ← q1]; exact congrArg xst (by omega)
      · rw [e]; exact q2
    · rw [show (0 : Int32) + nI (a + k) = nI (0 + (a + k)) from nI_add 0 (a + k)]
      have e : dv_cf a tx k = dv_gl (tx 0) (a + k) := dv_gl_l (by omega)
      obtain ⟨q1, q2⟩ := h0 (a + k) (by omega)
      refine go _ (by omega) ?_ ?_
      · rw [e, ← q1]
      · rw [e]; exact q2
end
section
variable {ytl ydl ync ysc yrl yin ysl yss yws ywn ylc : Int32} {ytx yln ykd yor ypa ypz yrb yrk yro ycu yen ylr : Nat → Int32}
variable {r : Nat}
theorem dy_run14 {post : Int32 → SY → Prop} {v : Int32} {b c : Nat} (hr : r < 4) (hb : b < 256) (hv : v &&& 255 = nI b) (hc : c ≤ 256) :
    ∀ (m n k : Nat) (tx : Nat → List Nat) (ytx yln : Nat → Int32), k + m = c → m < n → dv_BL tx r (256 - m) → dv_TY tx ytx yln →
    (∀ st ln, dv_TY (dv_bs (fun _ _ => b) r m k tx) st ln → post 1 (ytl, ydl, ync, ysc, yrl, yin, ysl, yss, yws, ywn, ylc, st, ln, ykd, yor, ypa, ypz, yrb, yrk, yro, ycu, yen, ylr)) → wY_appendRun_14 post (nI r) v (nI c) n (nI k) ytl ydl ync ysc yrl yin ysl yss yws ywn ylc ytx yln ykd yor ypa ypz yrb yrk yro ycu yen ylr := by
  intro m
  induction m with
  | zero =>
    intro n k tx ytx yln hk hn hB hX ok
    obtain ⟨n, rfl⟩ : ∃ m, n = m + 1 := ⟨n - 1, by omega⟩
    exact br_t (nI_le (by omega) (by omega)) (ok _ _ hX)
  | succ m ih =>
    intro n k tx ytx yln hk hn hB hX ok
    obtain ⟨n, rfl⟩ : ∃ m, n = m + 1 := ⟨n - 1, by omega⟩
    have b1 := hB.1
    refine br_f (nI_ge (by omega) (by omega)) (dy_push hr (hX r hr).1 (by omega) hv (nm_r (nI_1 k) (ih n (k + 1) (dv_ap tx r [b]) _ _ (by omega) (by omega) ?_ (dv_TY_push hX hr hb (by omega) hB.2) ok)))
    have := dv_BL_s (b := b) hB (by omega)
    rw [show 256 - (m + 1) + 1 = 256 - m by omega] at this
    exact this
theorem dy_wrd19 {post : Int32 → SY → Prop} {v : Int32} {fb : Nat → Nat} {c : Nat} (hr : r < 4) (hb : ∀ k, fb k < 256)
    (hv : ∀ k, k < c → (v.toUInt32 >>> ((24 - 8 * nI k).toUInt32 &&& Int32.toUInt32 31)).toInt32 &&& 255 = nI (fb k)) (hc : c ≤ 256) :
    ∀ (m n k : Nat) (tx : Nat → List Nat) (ytx yln : Nat → Int32), k + m = c → m < n → dv_BL tx r (256 - m) → dv_TY tx ytx yln →
    (∀ st ln, dv_TY (dv_bs (fun _ k => fb k) r m k tx) st ln → post 1 (ytl, ydl, ync, ysc, yrl, yin, ysl, yss, yws, ywn, ylc, st, ln, ykd, yor, ypa, ypz, yrb, yrk, yro, ycu, yen, ylr)) → wY_appendWord_19 post (nI r) v (nI c) n (nI k) ytl ydl ync ysc yrl yin ysl yss yws ywn ylc ytx yln ykd yor ypa ypz yrb yrk yro ycu yen ylr := by
  intro m
  induction m with
  | zero =>
    intro n k tx ytx yln hk hn hB hX ok
    obtain ⟨n, rfl⟩ : ∃ m, n = m + 1 := ⟨n - 1, by omega⟩
    exact br_t (nI_le (by omega) (by omega)) (ok _ _ hX)
  | succ m ih =>
    intro n k tx ytx yln hk hn hB hX ok
    obtain ⟨n, rfl⟩ : ∃ m, n = m + 1 := ⟨n - 1, by omega⟩
    have b1 := hB.1
    refine br_f (nI_ge (by omega) (by omega)) (dy_push hr (hX r hr).1 (by omega) (hv k (by omega)) (nm_r (nI_1 k) (ih n (k + 1) (dv_ap tx r [fb k]) _ _ (by omega) (by omega) ?_ (dv_TY_push hX hr (hb k) (by omega) hB.2) ok)))
    have := dv_BL_s (b := fb k) hB (by omega)
    rw [show 256 - (m + 1) + 1 = 256 - m by omega] at this
    exact this
theorem dy_cpy34 {post : Int32 → SY → Prop} {a c s : Nat} (hc : c ≤ 128) :
    ∀ (m n k : Nat) (tx : Nat → List Nat) (ytx yln : Nat → Int32), k + m = c → m < n → (tx 0).length = s → a + k < s + (tx 1).length → dv_BL tx 1 (256 - m) → dv_TY tx ytx yln →
    (∀ st ln, dv_TY (dv_bs (dv_cf a) 1 m k tx) st ln → post 1 (ytl, ydl, ync, ysc, yrl, yin, ysl, yss, yws, ywn, ylc, st, ln, ykd, yor, ypa, ypz, yrb, yrk, yro, ycu, yen, ylr)) → wY_appendCopy_34 post (nI a) (nI c) n (nI k) ytl ydl ync ysc yrl yin ysl yss yws ywn ylc ytx yln ykd yor ypa ypz yrb yrk yro ycu yen ylr := by
  intro m
  induction m with
  | zero =>
    intro n k tx ytx yln hk hn hs ha hB hX ok
    obtain ⟨n, rfl⟩ : ∃ m, n = m + 1 := ⟨n - 1, by omega⟩
    exact br_t (nI_le (by omega) (by omega)) (ok _ _ hX)
  | succ m ih =>
    intro n k tx ytx yln hk hn hs ha hB hX ok
    obtain ⟨n, rfl⟩ : ∃ m, n = m + 1 := ⟨n - 1, by omega⟩
    have h0 := hX 0 (by omega)
    have h1 := hX 1 (by omega)
    have b0 := hB.2 0 (by omega)
    have b1 := hB.1
    have go : dv_cf a tx k < 256 → wY_appendCopy_79 post (wY_appendCopy_34 post (nI a) (nI c) n) (nI a) (nI c) (nI k) (nI (dv_cf a tx k)) ytl ydl ync ysc yrl yin ysl yss yws ywn ylc ytx yln ykd yor ypa ypz yrb yrk yro ycu yen ylr := by
      intro hb
      unfold wY_appendCopy_79
      refine dy_push (r := 1) (by omega) h1.1 (by omega) (dv_m255 hb) (nm_r (nI_1 k) (ih n (k + 1) (dv_ap tx 1 [dv_cf a tx k]) _ _ (by omega) (by omega) ?_ ?_ ?_ (dv_TY_push hX (by omega) hb (by omega) hB.2) ok))
      · rw [dv_ap_n (by omega)]; exact hs
      · rw [dv_ap_s, List.length_append, List.length_singleton]; omega
      · have := dv_BL_s (b := dv_cf a tx k) hB (by omega)
        rw [show 256 - (m + 1) + 1 = 256 - m by omega] at this
        exact this
    refine br_f (nI_ge (by omega) (by omega)) (nm_r (nI_add a k) ?_)
    rw [h0.1, hs]
    refine pk_le s (a + k) (fun le => ?_) (fun lt => ?_)
    · rw [pk_sub (a := a + k) (b := s) (by omega)]
      have e : dv_cf a tx k = dv_gl (tx 1) (a + k - s) := by
        unfold dv_cf
        have := dv_gl_r (t := tx 1) (tx 0) (a + k - s)
        rw [hs, show s + (a + k - s) = a + k by omega] at this
        exact this
      obtain ⟨q1, q2⟩ := h1.2 (a + k - s) (by omega)
      rw [← e] at q1 q2
      exact dy_at0 (r := 1) (by omega) h1.1 (by omega) (by omega) q1 (go q2)
    · have e : dv_cf a tx k = dv_gl (tx 0) (a + k) := dv_gl_l (by omega)
      obtain ⟨q1, q2⟩ := h0.2 (a + k) (by omega)
      rw [← e] at q1 q2
      exact dy_at0 (r := 0) (by omega) h0.1 (by omega) (by omega) q1 (go q2)
end
end
section
/-! the plain methods -/
theorem dv_ix {n : Nat} {m : Int32} (x : Int32) (hm : m = nI n) (hn : n < 1000) : x < 0 ∨ (¬ x < 0 ∧ m < x) ∨ ∃ j : Nat, j < n + 1 ∧ x = nI j := by
  subst hm
  by_cases h : x < 0
  · exact Or.inl h
  · obtain ⟨j, hj, rfl⟩ := nI_of h
    by_cases h2 : j < n + 1
    · exact Or.inr (Or.inr ⟨j, h2, rfl⟩)
    · exact Or.inr (Or.inl ⟨h, nI_lt (by omega) hj⟩)
section
variable {xq0 xq1 xq2 xq3 xq4 xq5 xq6 xtl xdl xnc xsc xts xni xwl xsf xsl xss xws xwn xpn xle xla xbk xbz xba xbg : Int32} {xst xln xok xoo xpz xfh xsh xne xsm xwb xwk xwo xcu xsp xsa xpv xch xpt xpl : Nat → Int32}
variable {tl dl N S : Nat} {tx : Nat → List Nat}
theorem dx_isT {post : Int32 → Prop} {j : Nat} (hj : j < 4) (h : post 1) : wpX_isText post (xq0, xq1, xq2, xq3, xq4, xq5, xq6, xtl, xdl, xnc, xsc, xts, xni, xwl, xsf, xsl, xss, xws, xwn, xpn, xle, xla, xbk, xbz, xba, xbg, xst, xln, xok, xoo, xpz, xfh, xsh, xne, xsm, xwb, xwk, xwo, xcu, xsp, xsa, xpv, xch, xpt, xpl) (nI j) :=
  br_f (nI_pos (by omega)) (br_f (nI_nlt (a := 3) (by omega) (by omega)) h)
theorem dx_isF {post : Int32 → Prop} {j : Nat} (hj : j < 3) (h : post 1) : wpX_isFed post (xq0, xq1, xq2, xq3, xq4, xq5, xq6, xtl, xdl, xnc, xsc, xts, xni, xwl, xsf, xsl, xss, xws, xwn, xpn, xle, xla, xbk, xbz, xba, xbg, xst, xln, xok, xoo, xpz, xfh, xsh, xne, xsm, xwb, xwk, xwo, xcu, xsp, xsa, xpv, xch, xpt, xpl) (nI j) :=
  br_f (nI_pos (by omega)) (br_f (nI_nlt (a := 2) (by omega) (by omega)) h)
theorem dx_room {post : Int32 → Prop} {r : Nat} (hr : r < 3) (hP : dv_PM tl dl N S) (hM : dv_LM tl dl tx) (hT : dv_TX tx xst xln) (h : post (nI (dv_lim tl dl r - (tx r).length))) : wpX_room post (xq0, xq1, xq2, xq3, xq4, xq5, xq6, nI tl, nI dl, nI N, nI (16 * S), nI (dv_sz N S), xni, xwl, xsf, xsl, xss, xws, xwn, xpn, xle, xla, xbk, xbz, xba, xbg, xst, xln, xok, xoo, xpz, xfh, xsh, xne, xsm, xwb, xwk, xwo, xcu, xsp, xsa, xpv, xch, xpt, xpl) (nI r) := by
  have hl := hM r (by omega)
  unfold dv_lim at hl h
  have go : ∀ z : Nat, (tx r).length ≤ z → post (nI (z - (tx r).length)) → wX_room_16 post (nI r) (nI z) xq0 xq1 xq2 xq3 xq4 xq5 xq6 (nI tl) (nI dl) (nI N) (nI (16 * S)) (nI (dv_sz N S)) xni xwl xsf xsl xss xws xwn xpn xle xla xbk xbz xba xbg xst xln xok xoo xpz xfh xsh xne xsm xwb xwk xwo xcu xsp xsa xpv xch xpt xpl := by
    intro z hz hp
    unfold wX_room_16
    rw [nI_clamp (by omega), (hT r (by omega)).1, pk_sub hz]
    exact ⟨vp_in_nI (by omega) (by omega), hp⟩
  refine pk_eq r 2 (fun z => ?_) (fun z => ?_)
  · rw [if_pos z] at hl h
    exact go dl hl h
  · rw [if_neg z] at hl h
    exact go tl hl h
end
section
variable {ytl ydl ync ysc yrl yin ysl yss yws ywn ylc : Int32} {ytx yln ykd yor ypa ypz yrb yrk yro ycu yen ylr : Nat → Int32}
variable {tl dl N S : Nat} {tx : Nat → List Nat}
theorem dy_room {post : Int32 → Prop} {r c : Nat} (hr : r < 3) (hc : 1 ≤ c) (hc2 : c < 2 ^ 31) (hP : dv_PM tl dl N S) (hM : dv_LM tl dl tx) (hT : dv_TY tx ytx yln) (h0 : dv_lim tl dl r - (tx r).length < c → post 0) (h1 : c ≤ dv_lim tl dl r - (tx r).length → post 1) : wpY_room post (nI tl, nI dl, nI N, nI S, yrl, yin, ysl, yss, yws, ywn, ylc, ytx, yln, ykd, yor, ypa, ypz, yrb, yrk, yro, ycu, yen, ylr) (nI r) (nI c) := by
  obtain ⟨p1, p2, p3, p4, p5, p6⟩ := hP
  have hl := hM r (by omega)
  unfold dv_lim at hl h0 h1
  unfold wpY_room
  dsimp only
  refine br_f (nI_pos (by omega)) (br_f (nI_nlt (a := 2) (by omega) (by omega)) (br_t (nI_le (a := 1) hc hc2) ?_))
  refine br_f (nI_pos (by omega)) (br_t (nI_le (b := 3) (by omega) (by omega)) ?_)
  rw [nI_clamp (by omega), (hT r (by omega)).1]
  have i : vp_in (nI r) 4 := vp_in_nI (by omega) (by omega)
  refine pk_eq r 2 (fun z => ?_) (fun z => ?_)
  · rw [if_pos z] at hl h0 h1
    rw [pk_sub hl]
    exact ⟨i, pk_lt (dl - (tx r).length) c h0 h1⟩
  · rw [if_neg z] at hl h0 h1
    rw [pk_sub hl]
    exact ⟨i, pk_lt (tl - (tx r).length) c h0 h1⟩
theorem dy_room0 {post : Int32 → Prop} {r c : Int32} (h : r < 0 ∨ (¬ r < 0 ∧ 2 < r) ∨ c < 1) (h0 : post 0) : wpY_room post (ytl, ydl, ync, ysc, yrl, yin, ysl, yss, yws, ywn, ylc, ytx, yln, ykd, yor, ypa, ypz, yrb, yrk, yro, ycu, yen, ylr) r c := by
  unfold wpY_room
  dsimp only
  by_cases z : r < 0
  · exact br_t z h0
  · refine br_f z ?_
    by_cases y : 2 < r
    · exact br_t y h0
    · refine br_f y (br_f (Int32.not_le.mpr ?_) h0)
      rcases h with h | h | h
      · exact absurd h z
      · exact absurd h.2 y
      · exact h
end
theorem i_vc_limit {k : Nat} {u : SX} {v : SY} (I : i_Rel k u v) (hk : k + 4 ≤ 2052) (v1 : Int32) : wpX_limit (fun r => wpY_limit (fun r' => r' = r ∧ i_Rel (k + 4) u v) v v1) u v1 := by
  refine dv_el (P := fun u v => wpX_limit (fun r => wpY_limit (fun r' => r' = r ∧ i_Rel (k + 4) u v) v v1) u v1) I ?_
  intro xq0 xq1 xq2 xq3 xq4 xq5 xq6 xtl xdl xnc xsc xts xni xwl xsf xsl xss xws xwn xpn xle xla xbk xbz xba xbg xst xln xok xoo xpz xfh xsh xne xsm xwb xwk xwo xcu xsp xsa xpv xch xpt xpl ytl ydl ync ysc yrl yin ysl yss yws ywn ylc ytx yln ykd yor ypa ypz yrb yrk yro ycu yen ylr tl dl N S tx F
  have R : i_Rel (k + 4) (xq0, xq1, xq2, xq3, xq4, xq5, xq6, nI tl, nI dl, nI N, nI (16 * S), nI (dv_sz N S), xni, xwl, xsf, xsl, xss, xws, xwn, xpn, xle, xla, xbk, xbz, xba, xbg, xst, xln, xok, xoo, xpz, xfh, xsh, xne, xsm, xwb, xwk, xwo, xcu, xsp, xsa, xpv, xch, xpt, xpl) (nI tl, nI dl, nI N, nI S, yrl, yin, ysl, yss, yws, ywn, ylc, ytx, yln, ykd, yor, ypa, ypz, yrb, yrk, yro, ycu, yen, ylr) := dv_in F
  by_cases h2 : v1 = 2
  · exact br_t h2 (br_f (by rw [h2]; decide) (br_t (by rw [h2]; decide) (br_t h2 ⟨rfl, R⟩)))
  · refine br_f h2 ?_
    by_cases h0 : v1 < 0
    · exact br_t h0 (br_t rfl (br_t h0 ⟨rfl, R⟩))
    · by_cases h3 : 3 < v1
      · exact br_f h0 (br_t h3 (br_t rfl (br_f h0 (br_f (Int32.not_le.mpr h3) ⟨rfl, R⟩))))
      · exact br_f h0 (br_f h3 (br_f (by decide) (br_f h0 (br_t (Int32.not_lt.mp h3) (br_f h2 ⟨rfl, R⟩)))))
theorem i_vc_length {k : Nat} {u : SX} {v : SY} (I : i_Rel k u v) (hk : k + 4 ≤ 2052) (v1 : Int32) : wpX_length (fun r => wpY_length (fun r' => r' = r ∧ i_Rel (k + 4) u v) v v1) u v1 := by
  refine dv_el (P := fun u v => wpX_length (fun r => wpY_length (fun r' => r' = r ∧ i_Rel (k + 4) u v) v v1) u v1) I ?_
  intro xq0 xq1 xq2 xq3 xq4 xq5 xq6 xtl xdl xnc xsc xts xni xwl xsf xsl xss xws xwn xpn xle xla xbk xbz xba xbg xst xln xok xoo xpz xfh xsh xne xsm xwb xwk xwo xcu xsp xsa xpv xch xpt xpl ytl ydl ync ysc yrl yin ysl yss yws ywn ylc ytx yln ykd yor ypa ypz yrb yrk yro ycu yen ylr tl dl N S tx F
  have R : i_Rel (k + 4) (xq0, xq1, xq2, xq3, xq4, xq5, xq6, nI tl, nI dl, nI N, nI (16 * S), nI (dv_sz N S), xni, xwl, xsf, xsl, xss, xws, xwn, xpn, xle, xla, xbk, xbz, xba, xbg, xst, xln, xok, xoo, xpz, xfh, xsh, xne, xsm, xwb, xwk, xwo, xcu, xsp, xsa, xpv, xch, xpt, xpl) (nI tl, nI dl, nI N, nI S, yrl, yin, ysl, yss, yws, ywn, ylc, ytx, yln, ykd, yor, ypa, ypz, yrb, yrk, yro, ycu, yen, ylr) := dv_in F
  unfold wpX_length
  dsimp only
  rcases dv_ix (n := 3) (m := 3) v1 rfl (by omega) with h | ⟨h, h3⟩ | ⟨j, hj, rfl⟩
  · exact br_t h (br_t rfl (br_t h ⟨rfl, R⟩))
  · exact br_f h (br_t h3 (br_t rfl (br_f h (br_f (Int32.not_le.mpr h3) ⟨rfl, R⟩))))
  · obtain ⟨f1, f2, f3, f4, f5, f6, f7⟩ := F
    refine dx_isT hj (br_f (by decide) ⟨vp_in_nI (by omega) (by omega), ?_⟩)
    refine br_f (nI_pos (by omega)) (br_t (nI_le (b := 3) (by omega) (by omega)) ⟨vp_in_nI (by omega) (by omega), ?_, R⟩)
    rw [nI_clamp (by omega), (f3 j hj).1, (f4 j hj).1]
theorem i_vc_at {k : Nat} {u : SX} {v : SY} (I : i_Rel k u v) (hk : k + 4 ≤ 2052) (v1 : Int32) (v2 : Int32) : wpX_at (fun r => wpY_at (fun r' => r' = r ∧ i_Rel (k + 4) u v) v v1 v2) u v1 v2 := by
  refine dv_el (P := fun u v => wpX_at (fun r => wpY_at (fun r' => r' = r ∧ i_Rel (k + 4) u v) v v1 v2) u v1 v2) I ?_
  intro xq0 xq1 xq2 xq3 xq4 xq5 xq6 xtl xdl xnc xsc xts xni xwl xsf xsl xss xws xwn xpn xle xla xbk xbz xba xbg xst xln xok xoo xpz xfh xsh xne xsm xwb xwk xwo xcu xsp xsa xpv xch xpt xpl ytl ydl ync ysc yrl yin ysl yss yws ywn ylc ytx yln ykd yor ypa ypz yrb yrk yro ycu yen ylr tl dl N S tx F
  have R : i_Rel (k + 4) (xq0, xq1, xq2, xq3, xq4, xq5, xq6, nI tl, nI dl, nI N, nI (16 * S), nI (dv_sz N S), xni, xwl, xsf, xsl, xss, xws, xwn, xpn, xle, xla, xbk, xbz, xba, xbg, xst, xln, xok, xoo, xpz, xfh, xsh, xne, xsm, xwb, xwk, xwo, xcu, xsp, xsa, xpv, xch, xpt, xpl) (nI tl, nI dl, nI N, nI S, yrl, yin, ysl, yss, yws, ywn, ylc, ytx, yln, ykd, yor, ypa, ypz, yrb, yrk, yro, ycu, yen, ylr) := dv_in F
  unfold wpX_at
  dsimp only
  rcases dv_ix (n := 3) (m := 3) v1 rfl (by omega) with h | ⟨h, h3⟩ | ⟨j, hj, rfl⟩
  · exact br_t h (br_t rfl (br_t h ⟨rfl, R⟩))
  · exact br_f h (br_t h3 (br_t rfl (br_f h (br_t h3 ⟨rfl, R⟩))))
  · obtain ⟨f1, f2, f3, f4, f5, f6, f7⟩ := F
    obtain ⟨p1, p2, p3, p4, p5, p6⟩ := f1
    have hl : (tx j).length ≤ 256 := Nat.le_trans (f2 j hj) (by unfold dv_lim; split <;> omega)
    obtain ⟨x1, x2⟩ := f3 j hj
    obtain ⟨y1, y2⟩ := f4 j hj
    refine dx_isT hj (br_f (by decide) ?_)
    have n0 : ¬ nI j < 0 := nI_pos (by omega)
    have n3 : ¬ (3 : Int32) < nI j := nI_nlt (a := 3) (by omega) (by omega)
    have i4 : vp_in (nI j) 4 := vp_in_nI (by omega) (by omega)
    have i6 : vp_in (nI j) 6 := vp_in_nI (by omega) (by omega)
    by_cases z : v2 < 0
    · exact br_t z (br_f n0 (br_f n3 (br_t z ⟨rfl, R⟩)))
    · obtain ⟨i, hi, rfl⟩ := nI_of z
      rw [nI_clamp (by omega), x1]
      refine br_f z ⟨i6, pk_lt i (tx j).length (fun lt => ?_) (fun ge => ?_)⟩
      · rw [show nI j * 512 = nI (j * 512) from pk_mul j 512, nI_add, nI_clamp (by omega)]
        refine ⟨vp_in_nI (by omega) (by omega), ?_⟩
        obtain ⟨s1, s2⟩ := x2 i lt
        obtain ⟨t1, t2⟩ := y2 i lt
        rw [show j * 512 + i = 512 * j + i by omega, s1]
        exact dy_at0 hj y1 hl lt t1 ⟨rfl, R⟩
      · refine br_f n0 (br_f n3 (br_f z ⟨i4, br_f ?_ ⟨rfl, R⟩⟩))
        rw [nI_clamp (by omega), y1]
        exact nI_nlt ge hi
theorem dv_LM_ap {tl dl r n : Nat} {tx : Nat → List Nat} {M : List Nat} (h : dv_LM tl dl tx) (hM : M.length = n) (hn : n ≤ dv_lim tl dl r - (tx r).length) (hr : r < 4) : dv_LM tl dl (dv_ap tx r M) := fun q hq => by
  by_cases z : q = r
  · subst z
    have := h q hq
    rw [dv_ap_s, List.length_append]
    omega
  · rw [dv_ap_n z]; exact h q hq
section
variable {xq0 xq1 xq2 xq3 xq4 xq5 xq6 xtl xdl xnc xsc xts xni xwl xsf xsl xss xws xwn xpn xle xla xbk xbz xba xbg : Int32} {xst xln xok xoo xpz xfh xsh xne xsm xwb xwk xwo xcu xsp xsa xpv xch xpt xpl : Nat → Int32}
variable {ytl ydl ync ysc yrl yin ysl yss yws ywn ylc : Int32} {ytx yln ykd yor ypa ypz yrb yrk yro ycu yen ylr : Nat → Int32}
variable {tl dl N S : Nat} {tx : Nat → List Nat}
theorem dv_ap0 {r : Nat} {M : List Nat} : ∃ M', dv_ap tx r M 0 = tx 0 ++ M' := by
  by_cases z : 0 = r
  · subst z; exact ⟨M, dv_ap_s⟩
  · exact ⟨[], by rw [dv_ap_n z, List.append_nil]⟩
theorem dv_Fa_bs {r n : Nat} {f : (Nat → List Nat) → Nat → Nat} {st ln ts yl : Nat → Int32} (F : dv_Fa tl dl N S tx xst xln xok xoo xpz xfh xsh ytx yln ykd yor ypa ypz)
    (hr : r < 3) (hn : n ≤ dv_lim tl dl r - (tx r).length) (hX : dv_XT (dv_bs f r n 0 tx) xst xln st ln) (hY : dv_TY (dv_bs f r n 0 tx) ts yl) :
    dv_Fa tl dl N S (dv_bs f r n 0 tx) st ln xok xoo xpz xfh xsh ts yl ykd yor ypa ypz := by
  obtain ⟨M, hM, e⟩ := dv_bs_ex (f := f) (r := r) n 0 tx
  rw [e] at hX hY ⊢
  obtain ⟨M', h0⟩ := dv_ap0 (tx := tx) (r := r) (M := M)
  refine dv_keep F h0 (dv_LM_ap F.2.1 hM hn (by omega)) hX.1 hX.2.1 hX.2.2 hY ?_
  rw [dv_ap_n (by omega)]
  exact F.2.2.2.2.2.1
theorem dv_BL_0 {r c : Nat} (F : dv_Fa tl dl N S tx xst xln xok xoo xpz xfh xsh ytx yln ykd yor ypa ypz) (hr : r < 3) (hc : c ≤ dv_lim tl dl r - (tx r).length) : dv_BL tx r (256 - c) ∧ c ≤ 256 := by
  obtain ⟨⟨p1, p2, p3, p4, p5, p6⟩, f2, f⟩ := F
  have lm : ∀ q, dv_lim tl dl q ≤ 256 := fun q => by unfold dv_lim; split <;> omega
  have h1 := f2 r (by omega)
  have h2 := lm r
  exact ⟨⟨by omega, fun q hq => Nat.le_trans (f2 q hq) (lm q)⟩, by omega⟩
end
theorem dv_byt (x : Int32) : ∃ b, b < 256 ∧ x &&& 255 = nI b := pk_andE x 8 (by decide)
theorem i_vc_append {k : Nat} {u : SX} {v : SY} (I : i_Rel k u v) (hk : k + 4 ≤ 2052) (v1 : Int32) (v2 : Int32) : wpX_append (fun r u' => wpY_append (fun r' v' => r' = r ∧ i_Rel (k + 4) u' v') v v1 v2) u v1 v2 := by
  refine dv_el (P := fun u v => wpX_append (fun r u' => wpY_append (fun r' v' => r' = r ∧ i_Rel (k + 4) u' v') v v1 v2) u v1 v2) I ?_
  intro xq0 xq1 xq2 xq3 xq4 xq5 xq6 xtl xdl xnc xsc xts xni xwl xsf xsl xss xws xwn xpn xle xla xbk xbz xba xbg xst xln xok xoo xpz xfh xsh xne xsm xwb xwk xwo xcu xsp xsa xpv xch xpt xpl ytl ydl ync ysc yrl yin ysl yss yws ywn ylc ytx yln ykd yor ypa ypz yrb yrk yro ycu yen ylr tl dl N S tx F
  have R : i_Rel (k + 4) (xq0, xq1, xq2, xq3, xq4, xq5, xq6, nI tl, nI dl, nI N, nI (16 * S), nI (dv_sz N S), xni, xwl, xsf, xsl, xss, xws, xwn, xpn, xle, xla, xbk, xbz, xba, xbg, xst, xln, xok, xoo, xpz, xfh, xsh, xne, xsm, xwb, xwk, xwo, xcu, xsp, xsa, xpv, xch, xpt, xpl) (nI tl, nI dl, nI N, nI S, yrl, yin, ysl, yss, yws, ywn, ylc, ytx, yln, ykd, yor, ypa, ypz, yrb, yrk, yro, ycu, yen, ylr) := dv_in F
  have bad : ∀ c : Int32, (v1 < 0 ∨ (¬ v1 < 0 ∧ 2 < v1) ∨ c < 1) → c = 1 → wpY_append (fun r' v' => r' = 0 ∧ i_Rel (k + 4) (xq0, xq1, xq2, xq3, xq4, xq5, xq6, nI tl, nI dl, nI N, nI (16 * S), nI (dv_sz N S), xni, xwl, xsf, xsl, xss, xws, xwn, xpn, xle, xla, xbk, xbz, xba, xbg, xst, xln, xok, xoo, xpz, xfh, xsh, xne, xsm, xwb, xwk, xwo, xcu, xsp, xsa, xpv, xch, xpt, xpl) v') (nI tl, nI dl, nI N, nI S, yrl, yin, ysl, yss, yws, ywn, ylc, ytx, yln, ykd, yor, ypa, ypz, yrb, yrk, yro, ycu, yen, ylr) v1 v2 := by
    intro c h ec
    subst ec
    unfold wpY_append wpY_appendRun
    exact dy_room0 h (br_t rfl ⟨narrow_b0, rfl, R⟩)
  unfold wpX_append
  rcases dv_ix (n := 2) (m := 2) v1 rfl (by omega) with h | ⟨h, h3⟩ | ⟨j, hj, rfl⟩
  · exact br_t h (br_t rfl (bad 1 (Or.inl h) rfl))
  · exact br_f h (br_t h3 (br_t rfl (bad 1 (Or.inr (Or.inl ⟨h, h3⟩)) rfl)))
  · obtain ⟨b, hb, eb⟩ := dv_byt v2
    have F' := F
    obtain ⟨f1, f2, f3, f4, f5, f6, f7⟩ := F'
    have p := f1
    obtain ⟨p1, p2, p3, p4, p5, p6⟩ := p
    have hl : dv_lim tl dl j ≤ 256 := by unfold dv_lim; split <;> omega
    refine dx_isF hj (br_f (by decide) (dx_room hj f1 f2 f3 ?_))
    refine pk_le 1 (dv_lim tl dl j - (tx j).length) (fun le => ?_) (fun gt => ?_)
    · obtain ⟨B, hc⟩ := dv_BL_0 F hj le
      refine dx_push (by omega) (f3 j (by omega)).1 (by omega) eb ?_
      unfold wpY_append wpY_appendRun
      refine dy_room (c := 1) hj (by omega) (by omega) f1 f2 f4 (fun q => absurd q (by omega)) (fun _ => br_f (by decide) ⟨2, ?_⟩)
      refine dy_run14 (b := b) (c := 1) (by omega) hb eb (by omega) 1 2 0 tx _ _ (by omega) (by omega) B f4 fun st ln hY => ⟨narrow_b1, rfl, dv_in (dv_Fa_bs F hj le ?_ hY)⟩
      exact dv_XT_push ⟨f3, fun _ _ => rfl, fun _ _ => rfl⟩ (by omega) hb B (by omega)
    · unfold wpY_append wpY_appendRun
      dsimp only
      refine dy_room (c := 1) hj (by omega) (by omega) f1 f2 f4 (fun _ => br_t rfl ⟨narrow_b0, rfl, R⟩) (fun q => absurd q (by omega))
theorem i_vc_appendRun {k : Nat} {u : SX} {v : SY} (I : i_Rel k u v) (hk : k + 4 ≤ 2052) (v1 : Int32) (v2 : Int32) (v3 : Int32) : wpX_appendRun (fun r u' => wpY_appendRun (fun r' v' => r' = r ∧ i_Rel (k + 4) u' v') v v1 v2 v3) u v1 v2 v3 := by
  refine dv_el (P := fun u v => wpX_appendRun (fun r u' => wpY_appendRun (fun r' v' => r' = r ∧ i_Rel (k + 4) u' v') v v1 v2 v3) u v1 v2 v3) I ?_
  intro xq0 xq1 xq2 xq3 xq4 xq5 xq6 xtl xdl xnc xsc xts xni xwl xsf xsl xss xws xwn xpn xle xla xbk xbz xba xbg xst xln xok xoo xpz xfh xsh xne xsm xwb xwk xwo xcu xsp xsa xpv xch xpt xpl ytl ydl ync ysc yrl yin ysl yss yws ywn ylc ytx yln ykd yor ypa ypz yrb yrk yro ycu yen ylr tl dl N S tx F
  have R : i_Rel (k + 4) (xq0, xq1, xq2, xq3, xq4, xq5, xq6, nI tl, nI dl, nI N, nI (16 * S), nI (dv_sz N S), xni, xwl, xsf, xsl, xss, xws, xwn, xpn, xle, xla, xbk, xbz, xba, xbg, xst, xln, xok, xoo, xpz, xfh, xsh, xne, xsm, xwb, xwk, xwo, xcu, xsp, xsa, xpv, xch, xpt, xpl) (nI tl, nI dl, nI N, nI S, yrl, yin, ysl, yss, yws, ywn, ylc, ytx, yln, ykd, yor, ypa, ypz, yrb, yrk, yro, ycu, yen, ylr) := dv_in F
  have bad : (v1 < 0 ∨ (¬ v1 < 0 ∧ 2 < v1) ∨ v3 < 1) → wpY_appendRun (fun r' v' => r' = 0 ∧ i_Rel (k + 4) (xq0, xq1, xq2, xq3, xq4, xq5, xq6, nI tl, nI dl, nI N, nI (16 * S), nI (dv_sz N S), xni, xwl, xsf, xsl, xss, xws, xwn, xpn, xle, xla, xbk, xbz, xba, xbg, xst, xln, xok, xoo, xpz, xfh, xsh, xne, xsm, xwb, xwk, xwo, xcu, xsp, xsa, xpv, xch, xpt, xpl) v') (nI tl, nI dl, nI N, nI S, yrl, yin, ysl, yss, yws, ywn, ylc, ytx, yln, ykd, yor, ypa, ypz, yrb, yrk, yro, ycu, yen, ylr) v1 v2 v3 := by
    intro h
    unfold wpY_appendRun
    dsimp only
    exact dy_room0 h (br_t rfl ⟨rfl, R⟩)
  unfold wpX_appendRun
  dsimp only
  rcases dv_ix (n := 2) (m := 2) v1 rfl (by omega) with h | ⟨h, h3⟩ | ⟨j, hj, rfl⟩
  · exact br_t h (br_t rfl (bad (Or.inl h)))
  · exact br_f h (br_t h3 (br_t rfl (bad (Or.inr (Or.inl ⟨h, h3⟩)))))
  · refine dx_isF hj (br_f (by decide) ?_)
    by_cases z : v3 < 1
    · exact br_t z (bad (Or.inr (Or.inr z)))
    · refine br_f z ?_
      obtain ⟨c, hc, rfl⟩ := nI_of (x := v3) (fun q => z (Int32.lt_trans q (by decide)))
      have hc1 : 1 ≤ c := by
        rcases Nat.eq_zero_or_pos c with q | q
        · subst q; exact absurd (by decide) z
        · exact q
      obtain ⟨b, hb, eb⟩ := dv_byt v2
      have F' := F
      obtain ⟨f1, f2, f3, f4, f5, f6, f7⟩ := F'
      have p := f1
      obtain ⟨p1, p2, p3, p4, p5, p6⟩ := p
      have hl : dv_lim tl dl j ≤ 256 := by unfold dv_lim; split <;> omega
      refine dx_room hj f1 f2 f3 (pk_le c (dv_lim tl dl j - (tx j).length) (fun le => ?_) (fun gt => ?_))
      · obtain ⟨B, hc⟩ := dv_BL_0 F hj le
        refine ⟨c + 1, dx_run27 (st0 := xst) (ln0 := xln) (by omega) hb eb hc c (c + 1) 0 tx _ _ (by omega) (by omega) B ⟨f3, fun _ _ => rfl, fun _ _ => rfl⟩ fun st ln hX => ?_⟩
        unfold wpY_appendRun
        dsimp only
        refine dy_room hj (by omega) (by omega) f1 f2 f4 (fun q => absurd q (by omega)) (fun _ => br_f (by decide) ⟨c + 1, ?_⟩)
        exact dy_run14 (by omega) hb eb hc c (c + 1) 0 tx _ _ (by omega) (by omega) B f4 fun st ln hY => ⟨rfl, dv_in (dv_Fa_bs F hj le hX hY)⟩
      · unfold wpY_appendRun
        dsimp only
        refine dy_room hj (by omega) (by omega) f1 f2 f4 (fun _ => br_t rfl ⟨rfl, R⟩) (fun q => absurd q (by omega))
theorem i_vc_appendWord {k : Nat} {u : SX} {v : SY} (I : i_Rel k u v) (hk : k + 4 ≤ 2052) (v1 : Int32) (v2 : Int32) (v3 : Int32) : wpX_appendWord (fun r u' => wpY_appendWord (fun r' v' => r' = r ∧ i_Rel (k + 4) u' v') v v1 v2 v3) u v1 v2 v3 := by
  refine dv_el (P := fun u v => wpX_appendWord (fun r u' => wpY_appendWord (fun r' v' => r' = r ∧ i_Rel (k + 4) u' v') v v1 v2 v3) u v1 v2 v3) I ?_
  intro xq0 xq1 xq2 xq3 xq4 xq5 xq6 xtl xdl xnc xsc xts xni xwl xsf xsl xss xws xwn xpn xle xla xbk xbz xba xbg xst xln xok xoo xpz xfh xsh xne xsm xwb xwk xwo xcu xsp xsa xpv xch xpt xpl ytl ydl ync ysc yrl yin ysl yss yws ywn ylc ytx yln ykd yor ypa ypz yrb yrk yro ycu yen ylr tl dl N S tx F
  have R : i_Rel (k + 4) (xq0, xq1, xq2, xq3, xq4, xq5, xq6, nI tl, nI dl, nI N, nI (16 * S), nI (dv_sz N S), xni, xwl, xsf, xsl, xss, xws, xwn, xpn, xle, xla, xbk, xbz, xba, xbg, xst, xln, xok, xoo, xpz, xfh, xsh, xne, xsm, xwb, xwk, xwo, xcu, xsp, xsa, xpv, xch, xpt, xpl) (nI tl, nI dl, nI N, nI S, yrl, yin, ysl, yss, yws, ywn, ylc, ytx, yln, ykd, yor, ypa, ypz, yrb, yrk, yro, ycu, yen, ylr) := dv_in F
  have bad : (v1 < 0 ∨ (¬ v1 < 0 ∧ 2 < v1) ∨ v3 < 1) → wpY_appendWord (fun r' v' => r' = 0 ∧ i_Rel (k + 4) (xq0, xq1, xq2, xq3, xq4, xq5, xq6, nI tl, nI dl, nI N, nI (16 * S), nI (dv_sz N S), xni, xwl, xsf, xsl, xss, xws, xwn, xpn, xle, xla, xbk, xbz, xba, xbg, xst, xln, xok, xoo, xpz, xfh, xsh, xne, xsm, xwb, xwk, xwo, xcu, xsp, xsa, xpv, xch, xpt, xpl) v') (nI tl, nI dl, nI N, nI S, yrl, yin, ysl, yss, yws, ywn, ylc, ytx, yln, ykd, yor, ypa, ypz, yrb, yrk, yro, ycu, yen, ylr) v1 v2 v3 := by
    intro h
    unfold wpY_appendWord
    dsimp only
    exact br_c (fun _ => ⟨rfl, R⟩) (fun _ => dy_room0 h (br_t rfl ⟨rfl, R⟩))
  unfold wpX_appendWord
  dsimp only
  rcases dv_ix (n := 2) (m := 2) v1 rfl (by omega) with h | ⟨h, h3⟩ | ⟨j, hj, rfl⟩
  · exact br_t h (br_t rfl (bad (Or.inl h)))
  · exact br_f h (br_t h3 (br_t rfl (bad (Or.inr (Or.inl ⟨h, h3⟩)))))
  · refine dx_isF hj (br_f (by decide) ?_)
    by_cases z : v3 < 1
    · exact br_t z (bad (Or.inr (Or.inr z)))
    · refine br_f z ?_
      by_cases z4 : 4 < v3
      · refine br_t z4 ?_
        unfold wpY_appendWord
        dsimp only
        exact br_t z4 ⟨rfl, R⟩
      · refine br_f z4 ?_
        obtain ⟨c, hc, rfl⟩ := nI_of (x := v3) (fun q => z (Int32.lt_trans q (by decide)))
        have hc1 : 1 ≤ c := by
          rcases Nat.eq_zero_or_pos c with q | q
          · subst q; exact absurd (by decide) z
          · exact q
        have hv : ∀ k, (v2.toUInt32 >>> ((24 - 8 * nI k).toUInt32 &&& Int32.toUInt32 31)).toInt32 &&& 255 = nI (Classical.choose (dv_byt (v2.toUInt32 >>> ((24 - 8 * nI k).toUInt32 &&& Int32.toUInt32 31)).toInt32)) := fun k => (Classical.choose_spec (dv_byt (v2.toUInt32 >>> ((24 - 8 * nI k).toUInt32 &&& Int32.toUInt32 31)).toInt32)).2
        have hb : ∀ k, Classical.choose (dv_byt (v2.toUInt32 >>> ((24 - 8 * nI k).toUInt32 &&& Int32.toUInt32 31)).toInt32) < 256 := fun k => (Classical.choose_spec (dv_byt (v2.toUInt32 >>> ((24 - 8 * nI k).toUInt32 &&& Int32.toUInt32 31)).toInt32)).1
        have F' := F
        obtain ⟨f1, f2, f3, f4, f5, f6, f7⟩ := F'
        have p := f1
        obtain ⟨p1, p2, p3, p4, p5, p6⟩ := p
        have hl : dv_lim tl dl j ≤ 256 := by unfold dv_lim; split <;> omega
        refine dx_room hj f1 f2 f3 (pk_le c (dv_lim tl dl j - (tx j).length) (fun le => ?_) (fun gt => ?_))
        · obtain ⟨B, hc⟩ := dv_BL_0 F hj le
          refine ⟨c + 1, dx_wrd32 (st0 := xst) (ln0 := xln) (by omega) hb (fun k _ => hv k) hc c (c + 1) 0 tx _ _ (by omega) (by omega) B ⟨f3, fun _ _ => rfl, fun _ _ => rfl⟩ fun st ln hX => ?_⟩
          unfold wpY_appendWord
          dsimp only
          refine br_f z4 (dy_room hj (by omega) (by omega) f1 f2 f4 (fun q => absurd q (by omega)) (fun _ => br_f (by decide) ⟨c + 1, ?_⟩))
          exact dy_wrd19 (by omega) hb (fun k _ => hv k) hc c (c + 1) 0 tx _ _ (by omega) (by omega) B f4 fun st ln hY => ⟨rfl, dv_in (dv_Fa_bs F hj le hX hY)⟩
        · unfold wpY_appendWord
          dsimp only
          refine br_f z4 (dy_room hj (by omega) (by omega) f1 f2 f4 (fun _ => br_t rfl ⟨rfl, R⟩) (fun q => absurd q (by omega)))
theorem i_vc_appendCopy {k : Nat} {u : SX} {v : SY} (I : i_Rel k u v) (hk : k + 4 ≤ 2052) (v1 : Int32) (v2 : Int32) : wpX_appendCopy (fun r u' => wpY_appendCopy (fun r' v' => r' = r ∧ i_Rel (k + 4) u' v') v v1 v2) u v1 v2 := by
  refine dv_el (P := fun u v => wpX_appendCopy (fun r u' => wpY_appendCopy (fun r' v' => r' = r ∧ i_Rel (k + 4) u' v') v v1 v2) u v1 v2) I ?_
  intro xq0 xq1 xq2 xq3 xq4 xq5 xq6 xtl xdl xnc xsc xts xni xwl xsf xsl xss xws xwn xpn xle xla xbk xbz xba xbg xst xln xok xoo xpz xfh xsh xne xsm xwb xwk xwo xcu xsp xsa xpv xch xpt xpl ytl ydl ync ysc yrl yin ysl yss yws ywn ylc ytx yln ykd yor ypa ypz yrb yrk yro ycu yen ylr tl dl N S tx F
  have R : i_Rel (k + 4) (xq0, xq1, xq2, xq3, xq4, xq5, xq6, nI tl, nI dl, nI N, nI (16 * S), nI (dv_sz N S), xni, xwl, xsf, xsl, xss, xws, xwn, xpn, xle, xla, xbk, xbz, xba, xbg, xst, xln, xok, xoo, xpz, xfh, xsh, xne, xsm, xwb, xwk, xwo, xcu, xsp, xsa, xpv, xch, xpt, xpl) (nI tl, nI dl, nI N, nI S, yrl, yin, ysl, yss, yws, ywn, ylc, ytx, yln, ykd, yor, ypa, ypz, yrb, yrk, yro, ycu, yen, ylr) := dv_in F
  have F' := F
  obtain ⟨f1, f2, f3, f4, f5, f6, f7⟩ := F'
  have p := f1
  obtain ⟨p1, p2, p3, p4, p5, p6⟩ := p
  have l0 : (tx 0).length ≤ 128 := Nat.le_trans (f2 0 (by omega)) (by unfold dv_lim; rw [if_neg (by omega)]; omega)
  have l1 : (tx 1).length ≤ 128 := Nat.le_trans (f2 1 (by omega)) (by unfold dv_lim; rw [if_neg (by omega)]; omega)
  have x0 := (f3 0 (by omega)).1
  have x1 := (f3 1 (by omega)).1
  have y0 := (f4 0 (by omega)).1
  have y1 := (f4 1 (by omega)).1
  unfold wpX_appendCopy wpY_appendCopy
  dsimp only
  rw [x0, x1, y0, y1, nI_add]
  refine nm_e ?_
  rw [nI_add]
  by_cases z : v1 < 0
  · exact br_t z (br_t z ⟨rfl, R⟩)
  · refine br_f z ?_
    obtain ⟨a, ha, rfl⟩ := nI_of z
    refine pk_lt a ((tx 0).length + (tx 1).length) (fun lt => ?_) (fun ge => br_f z (br_t (nI_le ge ha) ⟨rfl, R⟩))
    have ng : ¬ nI ((tx 0).length + (tx 1).length) ≤ nI a := nI_ge lt (by omega)
    by_cases z1 : v2 < 1
    · exact br_t z1 (br_f z (br_f ng (dy_room0 (Or.inr (Or.inr z1)) (br_t rfl ⟨rfl, R⟩))))
    · refine br_f z1 ?_
      obtain ⟨c, hc, rfl⟩ := nI_of (x := v2) (fun q => z1 (Int32.lt_trans q (by decide)))
      have hc1 : 1 ≤ c := by
        rcases Nat.eq_zero_or_pos c with q | q
        · subst q; exact absurd (by decide) z1
        · exact q
      have lm : dv_lim tl dl 1 = tl := by unfold dv_lim; rw [if_neg (by omega)]
      refine dx_room (r := 1) (by omega) f1 f2 f3 ?_
      rw [lm]
      refine pk_le c (tl - (tx 1).length) (fun le => ?_) (fun gt => ?_)
      · have le' : c ≤ dv_lim tl dl 1 - (tx 1).length := by rw [lm]; exact le
        obtain ⟨B, hc⟩ := dv_BL_0 F (r := 1) (by omega) le'
        refine ⟨c + 1, dx_cpy44 (st0 := xst) (ln0 := xln) (by omega) c (c + 1) 0 tx _ _ (by omega) (by omega) rfl (by omega) B ⟨f3, fun _ _ => rfl, fun _ _ => rfl⟩ fun st ln hX => ?_⟩
        refine br_f z (br_f ng (dy_room (r := 1) (by omega) (by omega) (by omega) f1 f2 f4 (fun q => absurd q (by rw [lm]; omega)) (fun _ => br_f (by decide) ⟨c + 1, ?_⟩)))
        exact dy_cpy34 (by omega) c (c + 1) 0 tx _ _ (by omega) (by omega) rfl (by omega) B f4 fun st ln hY => ⟨rfl, dv_in (dv_Fa_bs F (by omega) le' hX hY)⟩
      · refine br_f z (br_f ng (dy_room (r := 1) (by omega) (by omega) (by omega) f1 f2 f4 (fun _ => br_t rfl ⟨rfl, R⟩) (fun q => absurd q (by rw [lm]; omega))))
end
section
/-! replace, clear, tables, kinds, matches, adopt, apply -/
theorem dv_TX_up {tx : Nat → List Nat} {st ln st' ln' : Nat → Int32} {r : Nat} {t : List Nat} (h : dv_TX tx st ln) (h1 : ln' r = nI t.length) (hn : ∀ q, q < 4 → q ≠ r → ln' q = ln q)
    (h2 : dv_Seg st' (512 * r) t) (hs : ∀ q, q < 4 → q ≠ r → ∀ i, i < (tx q).length → st' (512 * q + i) = st (512 * q + i)) : dv_TX (dv_up tx r t) st' ln' := fun q hq => by
  by_cases z : q = r
  · subst z
    rw [dv_up_s]
    exact ⟨h1, h2⟩
  · rw [dv_up_n z]
    obtain ⟨a, b⟩ := h q hq
    exact ⟨(hn q hq z).trans a, dv_Seg_eq b (hs q hq z)⟩
theorem dv_TY_up {tx : Nat → List Nat} {st ln st' ln' : Nat → Int32} {r : Nat} {t : List Nat} (h : dv_TY tx st ln) (h1 : ln' r = nI t.length) (hn : ∀ q, q < 4 → q ≠ r → ln' q = ln q)
    (h2 : dv_Seg st' (256 * r) t) (hs : ∀ q, q < 4 → q ≠ r → ∀ i, i < (tx q).length → st' (256 * q + i) = st (256 * q + i)) : dv_TY (dv_up tx r t) st' ln' := fun q hq => by
  by_cases z : q = r
  · subst z
    rw [dv_up_s]
    exact ⟨h1, h2⟩
  · rw [dv_up_n z]
    obtain ⟨a, b⟩ := h q hq
    exact ⟨(hn q hq z).trans a, dv_Seg_eq b (hs q hq z)⟩
theorem dv_LM_up {tl dl r : Nat} {tx : Nat → List Nat} {t : List Nat} (h : dv_LM tl dl tx) (ht : t.length ≤ dv_lim tl dl r) : dv_LM tl dl (dv_up tx r t) := fun q hq => by
  by_cases z : q = r
  · subst z; rw [dv_up_s]; exact ht
  · rw [dv_up_n z]; exact h q hq
theorem dv_L256 {tl dl N S : Nat} {tx : Nat → List Nat} (h : dv_PM tl dl N S) (hM : dv_LM tl dl tx) {q : Nat} (hq : q < 4) : (tx q).length ≤ 256 := by
  obtain ⟨p1, p2, p3, p4, p5, p6⟩ := h
  exact Nat.le_trans (hM q hq) (by unfold dv_lim; split <;> omega)
theorem dv_L128 {tl dl N S : Nat} {tx : Nat → List Nat} (h : dv_PM tl dl N S) (hM : dv_LM tl dl tx) {q : Nat} (hq : q < 4) (h2 : q ≠ 2) : (tx q).length ≤ tl ∧ tl ≤ 128 := by
  obtain ⟨p1, p2, p3, p4, p5, p6⟩ := h
  have := hM q hq
  unfold dv_lim at this
  rw [if_neg h2] at this
  exact ⟨this, p2⟩
section
variable {ytl ydl ync ysc yrl yin ysl yss yws ywn ylc : Int32} {ytx yln ykd yor ypa ypz yrb yrk yro ycu yen ylr : Nat → Int32}
theorem dy_free {post : SY → Prop} (ok : ∀ pz, (∀ s, s < 2 → pz s = -1) → post (ytl, ydl, ync, ysc, yrl, yin, ysl, yss, yws, ywn, ylc, ytx, yln, ykd, yor, ypa, pz, yrb, yrk, yro, ycu, yen, ylr)) : wpY_freePatches post (ytl, ydl, ync, ysc, yrl, yin, ysl, yss, yws, ywn, ylc, ytx, yln, ykd, yor, ypa, ypz, yrb, yrk, yro, ycu, yen, ylr) := by
  unfold wpY_freePatches
  refine nm_e (nm_e (ok _ ?_))
  intro s hs
  have : s = 0 ∨ s = 1 := by omega
  rcases this with rfl | rfl <;> rfl
end
theorem i_vc_replace {k : Nat} {u : SX} {v : SY} (I : i_Rel k u v) (hk : k + 4 ≤ 2052) (v1 : Int32) (v2 : Int32) (v3 : Int32) : wpX_replace (fun r u' => wpY_replace (fun r' v' => r' = r ∧ i_Rel (k + 4) u' v') v v1 v2 v3) u v1 v2 v3 := by
  refine dv_el (P := fun u v => wpX_replace (fun r u' => wpY_replace (fun r' v' => r' = r ∧ i_Rel (k + 4) u' v') v v1 v2 v3) u v1 v2 v3) I ?_
  intro xq0 xq1 xq2 xq3 xq4 xq5 xq6 xtl xdl xnc xsc xts xni xwl xsf xsl xss xws xwn xpn xle xla xbk xbz xba xbg xst xln xok xoo xpz xfh xsh xne xsm xwb xwk xwo xcu xsp xsa xpv xch xpt xpl ytl ydl ync ysc yrl yin ysl yss yws ywn ylc ytx yln ykd yor ypa ypz yrb yrk yro ycu yen ylr tl dl N S tx F
  have R : i_Rel (k + 4) (xq0, xq1, xq2, xq3, xq4, xq5, xq6, nI tl, nI dl, nI N, nI (16 * S), nI (dv_sz N S), xni, xwl, xsf, xsl, xss, xws, xwn, xpn, xle, xla, xbk, xbz, xba, xbg, xst, xln, xok, xoo, xpz, xfh, xsh, xne, xsm, xwb, xwk, xwo, xcu, xsp, xsa, xpv, xch, xpt, xpl) (nI tl, nI dl, nI N, nI S, yrl, yin, ysl, yss, yws, ywn, ylc, ytx, yln, ykd, yor, ypa, ypz, yrb, yrk, yro, ycu, yen, ylr) := dv_in F
  unfold wpX_replace
  rcases dv_ix (n := 2) (m := 2) v1 rfl (by omega) with h | ⟨h, h3⟩ | ⟨j, hj, rfl⟩
  · exact br_t h (br_t rfl (br_t h ⟨rfl, R⟩))
  · exact br_f h (br_t h3 (br_t rfl (br_f h (br_t h3 ⟨rfl, R⟩))))
  · have F' := F
    obtain ⟨f1, f2, f3, f4, f5, f6, f7⟩ := F'
    have hl := dv_L256 f1 f2 (q := j) (by omega)
    obtain ⟨x1, x2⟩ := f3 j (by omega)
    obtain ⟨y1, y2⟩ := f4 j (by omega)
    have n0 : ¬ nI j < 0 := nI_pos (by omega)
    have n3 : ¬ (2 : Int32) < nI j := nI_nlt (a := 2) (by omega) (by omega)
    have i4 : vp_in (nI j) 4 := vp_in_nI (by omega) (by omega)
    have i6 : vp_in (nI j) 6 := vp_in_nI (by omega) (by omega)
    have cj : (nI j).toNatClampNeg = j := nI_clamp (by omega)
    refine dx_isF hj (br_f (by decide) ?_)
    by_cases z : v2 < 0
    · exact br_t z (br_f n0 (br_f n3 (br_t z ⟨rfl, R⟩)))
    · obtain ⟨i, hi, rfl⟩ := nI_of z
      refine br_f z ⟨i6, pk_lt i (tx j).length (fun lt => ?_) (fun ge => ?_) rfl (by rw [cj, x1])⟩
      · obtain ⟨b, hb, eb⟩ := dv_byt v3
        have ex : nI j * 512 + nI i = nI (512 * j + i) := by rw [show nI j * 512 = nI (j * 512) from pk_mul j 512, nI_add, Nat.mul_comm]
        have ey : nI j * 256 + nI i = nI (256 * j + i) := by rw [show nI j * 256 = nI (j * 256) from pk_mul j 256, nI_add, Nat.mul_comm]
        have TX : ∀ ln', (∀ q, q < 4 → ln' q = xln q) → dv_TX (dv_up tx j ((tx j).set i b)) (upd xst (512 * j + i) (nI b)) ln' := fun ln' hn => by
          refine dv_TX_up f3 (by rw [hn j (by omega), x1, List.length_set]) (fun q hq _ => hn q hq) (dv_Seg_set x2 lt hb) (fun q hq hne i' hi' => pk_un ?_)
          have := dv_L256 f1 f2 hq
          omega
        have TY : dv_TY (dv_up tx j ((tx j).set i b)) (upd ytx (256 * j + i) (nI b)) yln := by
          refine dv_TY_up f4 (by rw [y1, List.length_set]) (fun q hq _ => rfl) (dv_Seg_set y2 lt hb) (fun q hq hne i' hi' => pk_un ?_)
          have := dv_L256 f1 f2 hq
          omega
        have LM : dv_LM tl dl (dv_up tx j ((tx j).set i b)) := dv_LM_up f2 (by rw [List.length_set]; exact f2 j (by omega))
        have O6 : ∀ q, q < (dv_up tx j ((tx j).set i b) 3).length → xok q = ykd q ∧ xoo q = yor q := by
          rw [dv_up_n (by omega)]; exact f6
        rw [ex, nI_clamp (by omega), eb]
        refine ⟨vp_in_nI (by omega) (by omega), nm_e (pk_eq j 0 (fun z0 => ?_) (fun n0' => ?_))⟩
        · refine dx_free fun pz ln hpz hln => ?_
          refine br_f n0 (br_f n3 (br_f z ⟨i4, br_t (by rw [cj, y1]; exact nI_lt lt (by omega)) ?_⟩))
          rw [ey, nI_clamp (by omega), eb]
          refine ⟨vp_in_nI (by omega) (by omega), nm_e (br_t (by rw [z0]; rfl) (dy_free fun yz hyz => ⟨rfl, dv_in (dv_free F LM (TX _ hln) TY O6 fun s hs => ⟨hpz s hs, hyz s hs⟩)⟩))⟩
        · have nj : ¬ nI j = 0 := nI_ne0 (by omega) (by omega)
          refine br_f n0 (br_f n3 (br_f z ⟨i4, br_t (by rw [cj, y1]; exact nI_lt lt (by omega)) ?_⟩))
          rw [ey, nI_clamp (by omega), eb]
          refine ⟨vp_in_nI (by omega) (by omega), nm_e (br_f nj ⟨rfl, dv_in (dv_keep (M := []) F ?_ LM (TX _ fun _ _ => rfl) (fun q hq => pk_un (by omega)) (fun _ _ => rfl) TY O6)⟩)⟩
          rw [dv_up_n (by omega), List.append_nil]
      · refine br_f n0 (br_f n3 (br_f z ⟨i4, br_f ?_ ⟨rfl, R⟩⟩))
        rw [cj, y1]
        exact nI_nlt ge hi
theorem i_vc_clear {k : Nat} {u : SX} {v : SY} (I : i_Rel k u v) (hk : k + 4 ≤ 2052) (v1 : Int32) : wpX_clear (fun r u' => wpY_clear (fun r' v' => r' = r ∧ i_Rel (k + 4) u' v') v v1) u v1 := by
  refine dv_el (P := fun u v => wpX_clear (fun r u' => wpY_clear (fun r' v' => r' = r ∧ i_Rel (k + 4) u' v') v v1) u v1) I ?_
  intro xq0 xq1 xq2 xq3 xq4 xq5 xq6 xtl xdl xnc xsc xts xni xwl xsf xsl xss xws xwn xpn xle xla xbk xbz xba xbg xst xln xok xoo xpz xfh xsh xne xsm xwb xwk xwo xcu xsp xsa xpv xch xpt xpl ytl ydl ync ysc yrl yin ysl yss yws ywn ylc ytx yln ykd yor ypa ypz yrb yrk yro ycu yen ylr tl dl N S tx F
  have R : i_Rel (k + 4) (xq0, xq1, xq2, xq3, xq4, xq5, xq6, nI tl, nI dl, nI N, nI (16 * S), nI (dv_sz N S), xni, xwl, xsf, xsl, xss, xws, xwn, xpn, xle, xla, xbk, xbz, xba, xbg, xst, xln, xok, xoo, xpz, xfh, xsh, xne, xsm, xwb, xwk, xwo, xcu, xsp, xsa, xpv, xch, xpt, xpl) (nI tl, nI dl, nI N, nI S, yrl, yin, ysl, yss, yws, ywn, ylc, ytx, yln, ykd, yor, ypa, ypz, yrb, yrk, yro, ycu, yen, ylr) := dv_in F
  unfold wpX_clear
  rcases dv_ix (n := 3) (m := 3) v1 rfl (by omega) with h | ⟨h, h3⟩ | ⟨j, hj, rfl⟩
  · exact br_t h (br_t rfl (br_t h ⟨rfl, R⟩))
  · exact br_f h (br_t h3 (br_t rfl (br_f h (br_f (Int32.not_le.mpr h3) ⟨rfl, R⟩))))
  · have F' := F
    obtain ⟨f1, f2, f3, f4, f5, f6, f7⟩ := F'
    have n0 : ¬ nI j < 0 := nI_pos (by omega)
    have l3 : nI j ≤ 3 := nI_le (b := 3) (by omega) (by omega)
    have i4 : vp_in (nI j) 4 := vp_in_nI (by omega) (by omega)
    have i6 : vp_in (nI j) 6 := vp_in_nI (by omega) (by omega)
    have cj : (nI j).toNatClampNeg = j := nI_clamp (by omega)
    have TX : ∀ ln', (∀ q, q < 4 → ln' q = upd xln j 0 q) → dv_TX (dv_up tx j []) xst ln' := fun ln' hn =>
      dv_TX_up f3 (by rw [hn j hj, pk_us]; rfl) (fun q hq hne => by rw [hn q hq, pk_un hne]) dv_Seg_nil (fun q hq hne i' hi' => rfl)
    have TY : dv_TY (dv_up tx j []) ytx (upd yln j 0) :=
      dv_TY_up f4 (by rw [pk_us]; rfl) (fun q hq hne => pk_un hne) dv_Seg_nil (fun q hq hne i' hi' => rfl)
    have LM : dv_LM tl dl (dv_up tx j []) := dv_LM_up f2 (Nat.zero_le _)
    have O6 : ∀ q, q < (dv_up tx j [] 3).length → xok q = ykd q ∧ xoo q = yor q := by
      by_cases z : 3 = j
      · subst z
        rw [dv_up_s]
        intro q hq
        exact absurd hq (Nat.not_lt_zero q)
      · rw [dv_up_n z]; exact f6
    refine dx_isT hj (br_f (by decide) ?_)
    rw [cj]
    refine ⟨i6, nm_e (pk_eq j 0 (fun z0 => ?_) (fun n0' => ?_))⟩
    · refine dx_free fun pz ln hpz hln => ?_
      refine br_f n0 (br_t l3 ?_)
      rw [cj]
      exact ⟨i4, nm_e (br_t (by rw [z0]; rfl) (dy_free fun yz hyz => ⟨rfl, dv_in (dv_free F LM (TX _ hln) TY O6 fun s hs => ⟨hpz s hs, hyz s hs⟩)⟩))⟩
    · have nj : ¬ nI j = 0 := nI_ne0 (by omega) (by omega)
      refine br_f n0 (br_t l3 ?_)
      rw [cj]
      refine ⟨i4, nm_e (br_f nj ⟨rfl, dv_in (dv_keep (M := []) F ?_ LM (TX _ fun _ _ => rfl) (fun q hq => rfl) (fun q hq => pk_un (by omega)) TY O6)⟩)⟩
      rw [dv_up_n (by omega), List.append_nil]
theorem i_vc_codeTableSize {k : Nat} {u : SX} {v : SY} (I : i_Rel k u v) (hk : k + 4 ≤ 2052) : wpX_codeTableSize (fun r => wpY_codeTableSize (fun r' => r' = r ∧ i_Rel (k + 4) u v) v) u := by
  refine dv_el (P := fun u v => wpX_codeTableSize (fun r => wpY_codeTableSize (fun r' => r' = r ∧ i_Rel (k + 4) u v) v) u) I ?_
  intro xq0 xq1 xq2 xq3 xq4 xq5 xq6 xtl xdl xnc xsc xts xni xwl xsf xsl xss xws xwn xpn xle xla xbk xbz xba xbg xst xln xok xoo xpz xfh xsh xne xsm xwb xwk xwo xcu xsp xsa xpv xch xpt xpl ytl ydl ync ysc yrl yin ysl yss yws ywn ylc ytx yln ykd yor ypa ypz yrb yrk yro ycu yen ylr tl dl N S tx F
  exact ⟨dv_szI N S, dv_in F⟩
theorem i_vc_codeEntry {k : Nat} {u : SX} {v : SY} (I : i_Rel k u v) (hk : k + 4 ≤ 2052) (v1 : Int32) (v2 : Int32) : wpX_codeEntry (fun r => wpY_codeEntry (fun r' => r' = r ∧ i_Rel (k + 4) u v) v v1 v2) u v1 v2 := by
  refine dv_el (P := fun u v => wpX_codeEntry (fun r => wpY_codeEntry (fun r' => r' = r ∧ i_Rel (k + 4) u v) v v1 v2) u v1 v2) I ?_
  intro xq0 xq1 xq2 xq3 xq4 xq5 xq6 xtl xdl xnc xsc xts xni xwl xsf xsl xss xws xwn xpn xle xla xbk xbz xba xbg xst xln xok xoo xpz xfh xsh xne xsm xwb xwk xwo xcu xsp xsa xpv xch xpt xpl ytl ydl ync ysc yrl yin ysl yss yws ywn ylc ytx yln ykd yor ypa ypz yrb yrk yro ycu yen ylr tl dl N S tx F
  have R : i_Rel (k + 4) (xq0, xq1, xq2, xq3, xq4, xq5, xq6, nI tl, nI dl, nI N, nI (16 * S), nI (dv_sz N S), xni, xwl, xsf, xsl, xss, xws, xwn, xpn, xle, xla, xbk, xbz, xba, xbg, xst, xln, xok, xoo, xpz, xfh, xsh, xne, xsm, xwb, xwk, xwo, xcu, xsp, xsa, xpv, xch, xpt, xpl) (nI tl, nI dl, nI N, nI S, yrl, yin, ysl, yss, yws, ywn, ylc, ytx, yln, ykd, yor, ypa, ypz, yrb, yrk, yro, ycu, yen, ylr) := dv_in F
  obtain ⟨⟨p1, p2, p3, p4, p5, p6⟩, f2, f3, f4, f5, f6, f7⟩ := F
  have hz : dv_sz N S ≤ 256 := by unfold dv_sz; omega
  have bad : (v1 < 0 ∨ nI (dv_sz N S) ≤ v1 ∨ v2 < 0 ∨ ¬ v2 ≤ 1) → wpY_codeEntry (fun r' => r' = -1 ∧ i_Rel (k + 4) (xq0, xq1, xq2, xq3, xq4, xq5, xq6, nI tl, nI dl, nI N, nI (16 * S), nI (dv_sz N S), xni, xwl, xsf, xsl, xss, xws, xwn, xpn, xle, xla, xbk, xbz, xba, xbg, xst, xln, xok, xoo, xpz, xfh, xsh, xne, xsm, xwb, xwk, xwo, xcu, xsp, xsa, xpv, xch, xpt, xpl) (nI tl, nI dl, nI N, nI S, yrl, yin, ysl, yss, yws, ywn, ylc, ytx, yln, ykd, yor, ypa, ypz, yrb, yrk, yro, ycu, yen, ylr)) (nI tl, nI dl, nI N, nI S, yrl, yin, ysl, yss, yws, ywn, ylc, ytx, yln, ykd, yor, ypa, ypz, yrb, yrk, yro, ycu, yen, ylr) v1 v2 := by
    intro h
    unfold wpY_codeEntry wpY_codeTableSize
    dsimp only
    rw [dv_szI]
    refine br_c (fun _ => ⟨rfl, R⟩) (fun a => br_c (fun _ => ⟨rfl, R⟩) (fun b => br_c (fun _ => ⟨rfl, R⟩) (fun c => br_c (fun d => ?_) (fun _ => ⟨rfl, R⟩))))
    rcases h with h | h | h | h
    · exact absurd h a
    · exact absurd h b
    · exact absurd h c
    · exact absurd d h
  by_cases a : v1 < 0
  · exact br_t a (bad (Or.inl a))
  · obtain ⟨o, ho, rfl⟩ := nI_of a
    refine br_f a (pk_le (dv_sz N S) o (fun le => bad (Or.inr (Or.inl (nI_le le ho)))) (fun lt => ?_))
    by_cases c : v2 < 0
    · exact br_t c (bad (Or.inr (Or.inr (Or.inl c))))
    · obtain ⟨h, hh, rfl⟩ := nI_of c
      obtain ⟨t1, t2⟩ := f5 o lt
      refine br_f c (pk_le h 1 (fun le => pk_eq h 0 (fun z => ⟨vp_in_nI (by omega) (by omega), ?_⟩) (fun z => ⟨vp_in_nI (by omega) (by omega), ?_⟩)) (fun gt => bad (Or.inr (Or.inr (Or.inr (nI_ge gt hh))))))
      · rw [nI_clamp (by omega), t1]
        exact dy_ce p5 p6 lt (by omega) (fun _ => ⟨rfl, R⟩) (fun q => absurd q (by omega))
      · rw [nI_clamp (by omega), t2]
        exact dy_ce p5 p6 lt (by omega) (fun q => absurd q (by omega)) (fun _ => ⟨rfl, R⟩)
theorem i_vc_kindAt {k : Nat} {u : SX} {v : SY} (I : i_Rel k u v) (hk : k + 4 ≤ 2052) (v1 : Int32) : wpX_kindAt (fun r => wpY_kindAt (fun r' => r' = r ∧ i_Rel (k + 4) u v) v v1) u v1 := by
  refine dv_el (P := fun u v => wpX_kindAt (fun r => wpY_kindAt (fun r' => r' = r ∧ i_Rel (k + 4) u v) v v1) u v1) I ?_
  intro xq0 xq1 xq2 xq3 xq4 xq5 xq6 xtl xdl xnc xsc xts xni xwl xsf xsl xss xws xwn xpn xle xla xbk xbz xba xbg xst xln xok xoo xpz xfh xsh xne xsm xwb xwk xwo xcu xsp xsa xpv xch xpt xpl ytl ydl ync ysc yrl yin ysl yss yws ywn ylc ytx yln ykd yor ypa ypz yrb yrk yro ycu yen ylr tl dl N S tx F
  have R : i_Rel (k + 4) (xq0, xq1, xq2, xq3, xq4, xq5, xq6, nI tl, nI dl, nI N, nI (16 * S), nI (dv_sz N S), xni, xwl, xsf, xsl, xss, xws, xwn, xpn, xle, xla, xbk, xbz, xba, xbg, xst, xln, xok, xoo, xpz, xfh, xsh, xne, xsm, xwb, xwk, xwo, xcu, xsp, xsa, xpv, xch, xpt, xpl) (nI tl, nI dl, nI N, nI S, yrl, yin, ysl, yss, yws, ywn, ylc, ytx, yln, ykd, yor, ypa, ypz, yrb, yrk, yro, ycu, yen, ylr) := dv_in F
  obtain ⟨f1, f2, f3, f4, f5, f6, f7⟩ := F
  obtain ⟨l1, l2⟩ := dv_L128 f1 f2 (q := 3) (by omega) (by omega)
  have x := (f3 3 (by omega)).1
  have y := (f4 3 (by omega)).1
  by_cases a : v1 < 0
  · exact br_t a (br_t a ⟨rfl, R⟩)
  · obtain ⟨o, ho, rfl⟩ := nI_of a
    refine br_f a (pk_lt o (tx 3).length (fun lt => ⟨vp_in_nI (by omega) (by omega), ?_⟩) (fun ge => ?_) rfl x)
    · refine br_f a (br_t (by rw [y]; exact nI_lt lt (by omega)) ⟨vp_in_nI (by omega) (by omega), ?_, R⟩)
      rw [nI_clamp ho]
      exact (f6 o lt).1.symm
    · exact br_f a (br_f (by rw [y]; exact nI_nlt ge ho) ⟨rfl, R⟩)
theorem i_vc_originAt {k : Nat} {u : SX} {v : SY} (I : i_Rel k u v) (hk : k + 4 ≤ 2052) (v1 : Int32) : wpX_originAt (fun r => wpY_originAt (fun r' => r' = r ∧ i_Rel (k + 4) u v) v v1) u v1 := by
  refine dv_el (P := fun u v => wpX_originAt (fun r => wpY_originAt (fun r' => r' = r ∧ i_Rel (k + 4) u v) v v1) u v1) I ?_
  intro xq0 xq1 xq2 xq3 xq4 xq5 xq6 xtl xdl xnc xsc xts xni xwl xsf xsl xss xws xwn xpn xle xla xbk xbz xba xbg xst xln xok xoo xpz xfh xsh xne xsm xwb xwk xwo xcu xsp xsa xpv xch xpt xpl ytl ydl ync ysc yrl yin ysl yss yws ywn ylc ytx yln ykd yor ypa ypz yrb yrk yro ycu yen ylr tl dl N S tx F
  have R : i_Rel (k + 4) (xq0, xq1, xq2, xq3, xq4, xq5, xq6, nI tl, nI dl, nI N, nI (16 * S), nI (dv_sz N S), xni, xwl, xsf, xsl, xss, xws, xwn, xpn, xle, xla, xbk, xbz, xba, xbg, xst, xln, xok, xoo, xpz, xfh, xsh, xne, xsm, xwb, xwk, xwo, xcu, xsp, xsa, xpv, xch, xpt, xpl) (nI tl, nI dl, nI N, nI S, yrl, yin, ysl, yss, yws, ywn, ylc, ytx, yln, ykd, yor, ypa, ypz, yrb, yrk, yro, ycu, yen, ylr) := dv_in F
  obtain ⟨f1, f2, f3, f4, f5, f6, f7⟩ := F
  obtain ⟨l1, l2⟩ := dv_L128 f1 f2 (q := 3) (by omega) (by omega)
  have x := (f3 3 (by omega)).1
  have y := (f4 3 (by omega)).1
  by_cases a : v1 < 0
  · exact br_t a (br_t a ⟨rfl, R⟩)
  · obtain ⟨o, ho, rfl⟩ := nI_of a
    refine br_f a (pk_lt o (tx 3).length (fun lt => ⟨vp_in_nI (by omega) (by omega), ?_⟩) (fun ge => ?_) rfl x)
    · refine br_f a (br_t (by rw [y]; exact nI_lt lt (by omega)) ⟨vp_in_nI (by omega) (by omega), ?_, R⟩)
      rw [nI_clamp ho]
      exact (f6 o lt).2.symm
    · exact br_f a (br_f (by rw [y]; exact nI_nlt ge ho) ⟨rfl, R⟩)
section
variable {xq0 xq1 xq2 xq3 xq4 xq5 xq6 xtl xdl xnc xsc xts xni xwl xsf xsl xss xws xwn xpn xle xla xbk xbz xba xbg : Int32} {xst xln xok xoo xpz xfh xsh xne xsm xwb xwk xwo xcu xsp xsa xpv xch xpt xpl : Nat → Int32}
variable {ytl ydl ync ysc yrl yin ysl yss yws ywn ylc : Int32} {ytx yln ykd yor ypa ypz yrb yrk yro ycu yen ylr : Nat → Int32}
theorem dv_mat {tx : Nat → List Nat} {n : Nat} (hn : n ≤ 128) (f3 : dv_TX tx xst xln) (f4 : dv_TY tx ytx yln) (l3 : (tx 3).length = n) (l1 : (tx 1).length = n) : ∀ m k, k + m = n →
    ∃ r, (∀ post : Int32 → Prop, post r → wX_matches_21 post (nI n) xq0 xq1 xq2 xq3 xq4 xq5 xq6 xtl xdl xnc xsc xts xni xwl xsf xsl xss xws xwn xpn xle xla xbk xbz xba xbg xst xln xok xoo xpz xfh xsh xne xsm xwb xwk xwo xcu xsp xsa xpv xch xpt xpl (m + 1) (nI k)) ∧ (∀ post : Int32 → Prop, post r → wY_matches_19 post ytl ydl ync ysc yrl yin ysl yss yws ywn ylc ytx yln ykd yor ypa ypz yrb yrk yro ycu yen ylr (m + 1) (nI k)) := by
  have y1 := f4 1 (by omega)
  have y3 := f4 3 (by omega)
  have x1 := f3 1 (by omega)
  have x3 := f3 3 (by omega)
  intro m
  induction m with
  | zero =>
    intro k hk
    refine ⟨1, fun post h => br_t (nI_le (by omega) (by omega)) h, fun post h => br_t ?_ h⟩
    rw [y1.1, l1]
    exact nI_le (by omega) (by omega)
  | succ m ih =>
    intro k hk
    have c : ¬ nI n ≤ nI k := nI_ge (by omega) (by omega)
    have cy : ¬ yln 1 ≤ nI k := by rw [y1.1, l1]; exact c
    have a1 := x1.2 k (by omega)
    have a3 := x3.2 k (by omega)
    have b1 := y1.2 k (by omega)
    have b3 := y3.2 k (by omega)
    have e1 : (512 : Int32) + nI k = nI (512 + k) := nI_add 512 k
    have e3 : (1536 : Int32) + nI k = nI (1536 + k) := nI_add 1536 k
    have XW : ∀ post : Int32 → Prop, (dv_gl (tx 3) k = dv_gl (tx 1) k → wX_matches_21 post (nI n) xq0 xq1 xq2 xq3 xq4 xq5 xq6 xtl xdl xnc xsc xts xni xwl xsf xsl xss xws xwn xpn xle xla xbk xbz xba xbg xst xln xok xoo xpz xfh xsh xne xsm xwb xwk xwo xcu xsp xsa xpv xch xpt xpl (m + 1) (nI (k + 1))) → (dv_gl (tx 3) k ≠ dv_gl (tx 1) k → post 0) → wX_matches_21 post (nI n) xq0 xq1 xq2 xq3 xq4 xq5 xq6 xtl xdl xnc xsc xts xni xwl xsf xsl xss xws xwn xpn xle xla xbk xbz xba xbg xst xln xok xoo xpz xfh xsh xne xsm xwb xwk xwo xcu xsp xsa xpv xch xpt xpl (m + 1 + 1) (nI k) := by
      intro post h1 h2
      refine br_f c ?_
      rw [e1, e3, nI_clamp (by omega), nI_clamp (by omega)]
      exact ⟨vp_in_nI (by omega) (by omega), vp_in_nI (by omega) (by omega), pk_eq (dv_gl (tx 3) k) (dv_gl (tx 1) k) (fun q => nm_r (nI_1 k) (h1 q)) h2 a3.1 a1.1⟩
    have YW : ∀ post : Int32 → Prop, (dv_gl (tx 3) k = dv_gl (tx 1) k → wY_matches_19 post ytl ydl ync ysc yrl yin ysl yss yws ywn ylc ytx yln ykd yor ypa ypz yrb yrk yro ycu yen ylr (m + 1) (nI (k + 1))) → (dv_gl (tx 3) k ≠ dv_gl (tx 1) k → post 0) → wY_matches_19 post ytl ydl ync ysc yrl yin ysl yss yws ywn ylc ytx yln ykd yor ypa ypz yrb yrk yro ycu yen ylr (m + 1 + 1) (nI k) := by
      intro post h1 h2
      refine br_f cy (dy_at0 (r := 3) (by omega) y3.1 (by omega) (by omega) b3.1 (dy_at0 (r := 1) (by omega) y1.1 (by omega) (by omega) b1.1 ?_))
      exact pk_eq (dv_gl (tx 3) k) (dv_gl (tx 1) k) (fun q => nm_r (nI_1 k) (h1 q)) h2
    by_cases z : dv_gl (tx 3) k = dv_gl (tx 1) k
    · obtain ⟨r, hX, hY⟩ := ih (k + 1) (by omega)
      exact ⟨r, fun post h => XW post (fun _ => hX post h) (fun q => absurd z q), fun post h => YW post (fun _ => hY post h) (fun q => absurd z q)⟩
    · exact ⟨0, fun post h => XW post (fun q => absurd q z) (fun _ => h), fun post h => YW post (fun q => absurd q z) (fun _ => h)⟩
end
theorem i_vc_matches {k : Nat} {u : SX} {v : SY} (I : i_Rel k u v) (hk : k + 4 ≤ 2052) : wpX_matches (fun r => wpY_matches (fun r' => r' = r ∧ i_Rel (k + 4) u v) v) u := by
  refine dv_el (P := fun u v => wpX_matches (fun r => wpY_matches (fun r' => r' = r ∧ i_Rel (k + 4) u v) v) u) I ?_
  intro xq0 xq1 xq2 xq3 xq4 xq5 xq6 xtl xdl xnc xsc xts xni xwl xsf xsl xss xws xwn xpn xle xla xbk xbz xba xbg xst xln xok xoo xpz xfh xsh xne xsm xwb xwk xwo xcu xsp xsa xpv xch xpt xpl ytl ydl ync ysc yrl yin ysl yss yws ywn ylc ytx yln ykd yor ypa ypz yrb yrk yro ycu yen ylr tl dl N S tx F
  have R : i_Rel (k + 4) (xq0, xq1, xq2, xq3, xq4, xq5, xq6, nI tl, nI dl, nI N, nI (16 * S), nI (dv_sz N S), xni, xwl, xsf, xsl, xss, xws, xwn, xpn, xle, xla, xbk, xbz, xba, xbg, xst, xln, xok, xoo, xpz, xfh, xsh, xne, xsm, xwb, xwk, xwo, xcu, xsp, xsa, xpv, xch, xpt, xpl) (nI tl, nI dl, nI N, nI S, yrl, yin, ysl, yss, yws, ywn, ylc, ytx, yln, ykd, yor, ypa, ypz, yrb, yrk, yro, ycu, yen, ylr) := dv_in F
  obtain ⟨f1, f2, f3, f4, f5, f6, f7⟩ := F
  obtain ⟨l1, l2⟩ := dv_L128 f1 f2 (q := 3) (by omega) (by omega)
  obtain ⟨l3, l4⟩ := dv_L128 f1 f2 (q := 1) (by omega) (by omega)
  refine nm_r (f3 3 (by omega)).1 (pk_eq (tx 3).length (tx 1).length (fun z => ?_) (fun z => ?_) rfl (f3 1 (by omega)).1)
  · obtain ⟨r, hX, hY⟩ := dv_mat (n := (tx 3).length) (by omega) f3 f4 rfl z.symm (tx 3).length 0 (by omega)
    exact ⟨_, hX _ (pk_eq (tx 3).length (tx 1).length (fun _ => ⟨_, hY _ ⟨rfl, R⟩⟩) (fun q => absurd z q) (f4 3 (by omega)).1 (f4 1 (by omega)).1)⟩
  · exact pk_eq (tx 3).length (tx 1).length (fun q => absurd q z) (fun _ => ⟨rfl, R⟩) (f4 3 (by omega)).1 (f4 1 (by omega)).1
section
variable {xq0 xq1 xq2 xq3 xq4 xq5 xq6 xtl xdl xnc xsc xts xni xwl xsf xsl xss xws xwn xpn xle xla xbk xbz xba xbg : Int32} {xst xln xok xoo xpz xfh xsh xne xsm xwb xwk xwo xcu xsp xsa xpv xch xpt xpl : Nat → Int32}
theorem dx_adopt9 {post : SX → Prop} {t : List Nat} (ht : t.length ≤ 128) (st0 : Nat → Int32) (hs : dv_Seg st0 1536 t) :
    ∀ (m f i : Nat) (xst : Nat → Int32), i + m = t.length → m < f → (∀ j, j < i → xst j = nI (dv_gl t j)) → (∀ j, t.length ≤ j → xst j = st0 j) →
    (∀ st pz ln, dv_Seg st 0 t → (∀ j, t.length ≤ j → st j = st0 j) → (∀ s, s < 2 → pz s = -1) → (∀ q, q < 4 → ln q = upd xln 0 (nI t.length) q) → post (xq0, xq1, xq2, xq3, xq4, xq5, xq6, xtl, xdl, xnc, xsc, xts, xni, xwl, xsf, xsl, xss, xws, xwn, xpn, xle, xla, xbk, xbz, xba, xbg, st, ln, xok, xoo, pz, xfh, xsh, xne, xsm, xwb, xwk, xwo, xcu, xsp, xsa, xpv, xch, xpt, xpl)) →
    wX_adopt_9 post (nI t.length) xq0 xq1 xq2 xq3 xq4 xq5 xq6 xtl xdl xnc xsc xts xni xwl xsf xsl xss xws xwn xpn xle xla xbk xbz xba xbg f (nI i) xst xln xok xoo xpz xfh xsh xne xsm xwb xwk xwo xcu xsp xsa xpv xch xpt xpl := by
  intro m
  induction m with
  | zero =>
    intro f i xst hi hf h1 h2 fin
    obtain ⟨f, rfl⟩ : ∃ m, f = m + 1 := ⟨f - 1, by omega⟩
    obtain rfl : i = t.length := by omega
    refine br_t (nI_le (by omega) (by omega)) (nm_e (dx_free fun pz ln hpz hln => fin xst pz ln (fun j hj => ?_) h2 hpz hln))
    rw [Nat.zero_add]
    exact ⟨h1 j hj, (hs j hj).2⟩
  | succ m ih =>
    intro f i xst hi hf h1 h2 fin
    obtain ⟨f, rfl⟩ : ∃ m, f = m + 1 := ⟨f - 1, by omega⟩
    refine br_f (nI_ge (by omega) (by omega)) ?_
    rw [show (1536 : Int32) + nI i = nI (1536 + i) from nI_add 1536 i, show (0 : Int32) + nI i = nI (0 + i) from nI_add 0 i, Nat.zero_add, nI_clamp (by omega), nI_clamp (by omega)]
    refine ⟨vp_in_nI (by omega) (by omega), vp_in_nI (by omega) (by omega), nm_e (nm_r (nI_1 i) (ih f (i + 1) _ (by omega) (by omega) (fun j hj => ?_) (fun j hj => ?_) fin))⟩
    · by_cases z : j = i
      · subst z
        rw [pk_us, h2 _ (by omega)]
        exact (hs j (by omega)).1
      · rw [pk_un z]; exact h1 j (by omega)
    · rw [pk_un (by omega)]; exact h2 j hj
end
section
variable {ytl ydl ync ysc yrl yin ysl yss yws ywn ylc : Int32} {ytx yln ykd yor ypa ypz yrb yrk yro ycu yen ylr : Nat → Int32}
theorem dy_adopt9 {post : SY → Prop} {t : List Nat} (ht : t.length ≤ 128) (tx0 ln0 : Nat → Int32) (hs : dv_Seg tx0 768 t) (hl3 : ln0 3 = nI t.length) :
    ∀ (m f i : Nat) (ytx yln : Nat → Int32), i + m = t.length → m < f → (∀ j, j < i → ytx j = nI (dv_gl t j)) → (∀ j, t.length ≤ j → ytx j = tx0 j) → yln 0 = nI i → (∀ q, q ≠ 0 → yln q = ln0 q) →
    (∀ ts ln pz, dv_Seg ts 0 t → (∀ j, t.length ≤ j → ts j = tx0 j) → ln 0 = nI t.length → (∀ q, q ≠ 0 → ln q = ln0 q) → (∀ s, s < 2 → pz s = -1) → post (ytl, ydl, ync, ysc, yrl, yin, ysl, yss, yws, ywn, ylc, ts, ln, ykd, yor, ypa, pz, yrb, yrk, yro, ycu, yen, ylr)) →
    wY_adopt_9 post f (nI i) ytl ydl ync ysc yrl yin ysl yss yws ywn ylc ytx yln ykd yor ypa ypz yrb yrk yro ycu yen ylr := by
  intro m
  induction m with
  | zero =>
    intro f i ytx yln hi hf h1 h2 h3 h4 fin
    obtain ⟨f, rfl⟩ : ∃ m, f = m + 1 := ⟨f - 1, by omega⟩
    obtain rfl : i = t.length := by omega
    refine br_t (by rw [h4 3 (by omega), hl3]; exact nI_le (by omega) (by omega)) (dy_free fun pz hpz => fin _ _ pz (fun j hj => ?_) h2 h3 h4 hpz)
    rw [Nat.zero_add]
    exact ⟨h1 j hj, (hs j hj).2⟩
  | succ m ih =>
    intro f i ytx yln hi hf h1 h2 h3 h4 fin
    obtain ⟨f, rfl⟩ : ∃ m, f = m + 1 := ⟨f - 1, by omega⟩
    obtain ⟨s1, s2⟩ := hs i (by omega)
    refine br_f (by rw [h4 3 (by omega), hl3]; exact nI_ge (by omega) (by omega)) (dy_at0 (r := 3) (i := i) (x := nI (dv_gl t i)) (by omega) ((h4 3 (by omega)).trans hl3) (by omega) (by omega) ((h2 _ (by omega)).trans s1) ?_)
    refine dy_push (r := 0) (n := i) (by omega) h3 (by omega) (dv_m255 s2) (nm_r (nI_1 i) (ih f (i + 1) _ _ (by omega) (by omega) (fun j hj => ?_) (fun j hj => ?_) pk_us (fun q hq => ?_) fin))
    · by_cases z : j = i
      · subst z
        rw [show 256 * 0 + j = j by omega, pk_us]
      · rw [pk_un (by omega)]; exact h1 j (by omega)
    · rw [pk_un (by omega)]; exact h2 j hj
    · rw [pk_un hq]; exact h4 q hq
end
theorem i_vc_adopt {k : Nat} {u : SX} {v : SY} (I : i_Rel k u v) (hk : k + 4 ≤ 2052) : wpX_adopt (fun u' => wpY_adopt (fun v' => i_Rel (k + 4) u' v') v) u := by
  refine dv_el (P := fun u v => wpX_adopt (fun u' => wpY_adopt (fun v' => i_Rel (k + 4) u' v') v) u) I ?_
  intro xq0 xq1 xq2 xq3 xq4 xq5 xq6 xtl xdl xnc xsc xts xni xwl xsf xsl xss xws xwn xpn xle xla xbk xbz xba xbg xst xln xok xoo xpz xfh xsh xne xsm xwb xwk xwo xcu xsp xsa xpv xch xpt xpl ytl ydl ync ysc yrl yin ysl yss yws ywn ylc ytx yln ykd yor ypa ypz yrb yrk yro ycu yen ylr tl dl N S tx F
  have F' := F
  obtain ⟨f1, f2, f3, f4, f5, f6, f7⟩ := F'
  obtain ⟨l1, l2⟩ := dv_L128 f1 f2 (q := 3) (by omega) (by omega)
  refine nm_r (f3 3 (by omega)).1 ⟨(tx 3).length + 1, dx_adopt9 (by omega) xst (f3 3 (by omega)).2 (tx 3).length _ 0 xst (by omega) (by omega) (fun j hj => absurd hj (Nat.not_lt_zero j)) (fun j _ => rfl) ?_⟩
  intro st pz ln s1 s2 s3 s4
  refine nm_e ⟨(tx 3).length + 1, dy_adopt9 (by omega) ytx yln (f4 3 (by omega)).2 (f4 3 (by omega)).1 (tx 3).length _ 0 ytx _ (by omega) (by omega) (fun j hj => absurd hj (Nat.not_lt_zero j)) (fun j _ => rfl) pk_us (fun q hq => pk_un hq) ?_⟩
  intro ts yl yz t1 t2 t3 t4 t5
  have h4 : ∀ q, q < 4 → q ≠ 0 → ∀ i, i < (tx q).length → 512 * q + i ≥ (tx 3).length ∧ 256 * q + i ≥ (tx 3).length := fun q hq hne i hi => by omega
  refine dv_in (dv_free (tx' := dv_up tx 0 (tx 3)) F (dv_LM_up f2 ?_) ?_ ?_ ?_ fun s hs => ⟨s3 s hs, t5 s hs⟩)
  · unfold dv_lim; rw [if_neg (by omega)]; exact l1
  · exact dv_TX_up f3 (by rw [s4 0 (by omega), pk_us]) (fun q hq hne => by rw [s4 q hq, pk_un hne]) s1 (fun q hq hne i hi => s2 _ (h4 q hq hne i hi).1)
  · exact dv_TY_up f4 t3 (fun q hq hne => t4 q hne) t1 (fun q hq hne i hi => t2 _ (h4 q hq hne i hi).2)
  · rw [dv_up_n (by omega)]; exact f6
theorem i_vc_apply {k : Nat} {u : SX} {v : SY} (I : i_Rel k u v) (hk : k + 4 ≤ 2052) : wpX_apply (fun r u' => wpY_apply (fun r' v' => r' = r ∧ i_Rel (k + 4) u' v') v) u := by
  refine dv_el (P := fun u v => wpX_apply (fun r u' => wpY_apply (fun r' v' => r' = r ∧ i_Rel (k + 4) u' v') v) u) I ?_
  intro xq0 xq1 xq2 xq3 xq4 xq5 xq6 xtl xdl xnc xsc xts xni xwl xsf xsl xss xws xwn xpn xle xla xbk xbz xba xbg xst xln xok xoo xpz xfh xsh xne xsm xwb xwk xwo xcu xsp xsa xpv xch xpt xpl ytl ydl ync ysc yrl yin ysl yss yws ywn ylc ytx yln ykd yor ypa ypz yrb yrk yro ycu yen ylr tl dl N S tx F
  have F' := F
  obtain ⟨f1, f2, f3, f4, f5, f6, f7⟩ := F'
  have p := f1
  obtain ⟨p1, p2, p3, p4, p5, p6⟩ := p
  obtain ⟨l1, l2⟩ := dv_L128 f1 f2 (q := 0) (by omega) (by omega)
  have l3 := dv_L256 f1 f2 (q := 2) (by omega)
  have x0 := f3 0 (by omega)
  have x2 := f3 2 (by omega)
  have y0 := f4 0 (by omega)
  have y2 := f4 2 (by omega)
  unfold wpX_apply
  refine dx_dec (row := 2) p5 p6 p2 f5 (by omega) x0.2 x0.1 (by omega) (by omega) x2.1 x2.2 ?_ ?_
  · intro w g sf sg sp ws wn ni ne sm wb wk wo cu st e hw hW
    refine br_t rfl (dx_pub (by omega) hW fun st' ok' oo' q1 q2 q3 => ?_)
    refine dy_apply p5 p6 p2 (by omega) y0.1 y0.2 l3 y2.1 y2.2 ?_ ?_
    · intro w2 g2 sf2 sg2 sp2 ws2 wn2 lc2 tx2 ln2 kd2 or2 rb2 rk2 ro2 cu2 en2 lr2 e2 hw2 hW2 r1 r2 r3 r4
      have ee := e.symm.trans e2
      injection ee with ee
      injection ee with e3 e4
      subst e3 e4
      refine ⟨rfl, dv_in (dv_keep (tx' := dv_up tx 3 (dv_out w g)) (M := []) F ?_ (dv_LM_up f2 ?_) ?_ (fun j hj => q3 j (by omega)) (fun q hq => pk_un (by omega)) ?_ ?_)⟩
      · rw [dv_up_n (by omega), List.append_nil]
      · rw [dv_out_len]; unfold dv_lim; rw [if_neg (by omega)]; exact hw
      · refine dv_TX_up f3 (by rw [pk_us, dv_out_len]) (fun q hq hne => pk_un hne) q1 (fun q hq hne i hi => q3 _ ?_)
        have := dv_L256 f1 f2 hq
        omega
      · refine dv_TY_up f4 (by rw [r3, dv_out_len]) (fun q hq hne => r4 q hne) ?_ (fun q hq hne i hi => r2 _ ?_)
        · intro i hi
          rw [dv_out_len] at hi
          rw [dv_out_gl hi]
          exact ⟨(r1 i hi).1, (hW i hi).2.1⟩
        · have := dv_L256 f1 f2 hq
          omega
      · rw [dv_up_s, dv_out_len]
        intro j hj
        obtain ⟨a, b⟩ := (q2 j hj).2 (by decide)
        obtain ⟨_, c, d⟩ := r1 j hj
        exact ⟨a.trans c.symm, b.trans d.symm⟩
    · intro k2 a2 sf2 sg2 sp2 ws2 wn2 lc2 rb2 rk2 ro2 cu2 en2 lr2 h1 h2 e2
      rw [e] at e2
      simp at e2
  · intro k1 a sf sg sp ws wn ni ne sm wb wk wo cu st h1 h2 e
    refine br_f (nI_ne0 (by omega) (by omega)) ?_
    refine dy_apply p5 p6 p2 (by omega) y0.1 y0.2 l3 y2.1 y2.2 ?_ ?_
    · intro w2 g2 sf2 sg2 sp2 ws2 wn2 lc2 tx2 ln2 kd2 or2 rb2 rk2 ro2 cu2 en2 lr2 e2 hw2 hW2 r1 r2 r3 r4
      rw [e] at e2
      simp at e2
    · intro k2 a2 sf2 sg2 sp2 ws2 wn2 lc2 rb2 rk2 ro2 cu2 en2 lr2 h3 h4 e2
      have ee := e.symm.trans e2
      injection ee with ee
      subst ee
      exact ⟨rfl, dv_in F⟩
end
section
/-! patches: drop, length, at, apply -/
section
variable {xq0 xq1 xq2 xq3 xq4 xq5 xq6 xtl xdl xnc xsc xts xni xwl xsf xsl xss xws xwn xpn xle xla xbk xbz xba xbg : Int32} {xst xln xok xoo xpz xfh xsh xne xsm xwb xwk xwo xcu xsp xsa xpv xch xpt xpl : Nat → Int32}
theorem dx_held0 {post : Int32 → Prop} {s : Int32} (h : s < 0 ∨ (¬ s < 0 ∧ 1 < s)) (h0 : post 0) : wpX_isHeld post (xq0, xq1, xq2, xq3, xq4, xq5, xq6, xtl, xdl, xnc, xsc, xts, xni, xwl, xsf, xsl, xss, xws, xwn, xpn, xle, xla, xbk, xbz, xba, xbg, xst, xln, xok, xoo, xpz, xfh, xsh, xne, xsm, xwb, xwk, xwo, xcu, xsp, xsa, xpv, xch, xpt, xpl) s := by
  rcases h with h | ⟨h, h1⟩
  · exact br_t h h0
  · refine br_f h (br_t ?_ h0)
    rw [Int32.le_iff_toInt_le]
    rw [Int32.lt_iff_toInt_lt] at h1
    have a : (1 : Int32).toInt = 1 := by decide
    have b : (2 : Int32).toInt = 2 := by decide
    omega
theorem dx_held {post : Int32 → Prop} {s : Nat} (hs : s < 2) (h0 : xpz s = -1 → post 0) (h1 : ∀ n : Nat, n ≤ 128 → xpz s = nI n → post 1) (h : xpz s = -1 ∨ ∃ n : Nat, n ≤ 128 ∧ xpz s = nI n) : wpX_isHeld post (xq0, xq1, xq2, xq3, xq4, xq5, xq6, xtl, xdl, xnc, xsc, xts, xni, xwl, xsf, xsl, xss, xws, xwn, xpn, xle, xla, xbk, xbz, xba, xbg, xst, xln, xok, xoo, xpz, xfh, xsh, xne, xsm, xwb, xwk, xwo, xcu, xsp, xsa, xpv, xch, xpt, xpl) (nI s) := by
  refine br_f (nI_pos (by omega)) (br_f (nI_ge (b := 2) hs (by omega)) ⟨vp_in_nI hs (by omega), ?_⟩)
  rw [nI_clamp (by omega)]
  rcases h with h | ⟨n, hn, h⟩
  · exact br_t (by rw [h]; decide) (h0 h)
  · exact br_f (by rw [h]; exact nI_pos (by omega)) (h1 n hn h)
end
theorem dv_PR_h {N S tl : Nat} {Src : List Nat} {s : Nat} {st ln pz pa yz : Nat → Int32} (ht : tl ≤ 128) (h : dv_PR N S tl Src s st ln pz pa yz) : pz s = -1 ∨ ∃ n : Nat, n ≤ 128 ∧ pz s = nI n := by
  rcases h with h | ⟨P, H, p1, p2, p3⟩
  · exact Or.inl h.1
  · exact Or.inr ⟨P.length, by omega, p2⟩
theorem dv_m1n {n : Nat} (hn : n ≤ 128) : ¬ (-1 : Int32) = nI n := by
  intro q
  have := congrArg Int32.toInt q
  rw [nI_toInt (by omega), show (-1 : Int32).toInt = -1 from by decide] at this
  omega
theorem i_vc_dropPatch {k : Nat} {u : SX} {v : SY} (I : i_Rel k u v) (hk : k + 4 ≤ 2052) (v1 : Int32) : wpX_dropPatch (fun r u' => wpY_dropPatch (fun r' v' => r' = r ∧ i_Rel (k + 4) u' v') v v1) u v1 := by
  refine dv_el (P := fun u v => wpX_dropPatch (fun r u' => wpY_dropPatch (fun r' v' => r' = r ∧ i_Rel (k + 4) u' v') v v1) u v1) I ?_
  intro xq0 xq1 xq2 xq3 xq4 xq5 xq6 xtl xdl xnc xsc xts xni xwl xsf xsl xss xws xwn xpn xle xla xbk xbz xba xbg xst xln xok xoo xpz xfh xsh xne xsm xwb xwk xwo xcu xsp xsa xpv xch xpt xpl ytl ydl ync ysc yrl yin ysl yss yws ywn ylc ytx yln ykd yor ypa ypz yrb yrk yro ycu yen ylr tl dl N S tx F
  have R : i_Rel (k + 4) (xq0, xq1, xq2, xq3, xq4, xq5, xq6, nI tl, nI dl, nI N, nI (16 * S), nI (dv_sz N S), xni, xwl, xsf, xsl, xss, xws, xwn, xpn, xle, xla, xbk, xbz, xba, xbg, xst, xln, xok, xoo, xpz, xfh, xsh, xne, xsm, xwb, xwk, xwo, xcu, xsp, xsa, xpv, xch, xpt, xpl) (nI tl, nI dl, nI N, nI S, yrl, yin, ysl, yss, yws, ywn, ylc, ytx, yln, ykd, yor, ypa, ypz, yrb, yrk, yro, ycu, yen, ylr) := dv_in F
  unfold wpX_dropPatch
  rcases dv_ix (n := 1) (m := 1) v1 rfl (by omega) with h | ⟨h, h3⟩ | ⟨s, hs, rfl⟩
  · exact dx_held0 (Or.inl h) (br_t rfl (br_t h ⟨rfl, R⟩))
  · exact dx_held0 (Or.inr ⟨h, h3⟩) (br_t rfl (br_f h (br_t h3 ⟨rfl, R⟩)))
  · have F' := F
    obtain ⟨f1, f2, f3, f4, f5, f6, f7⟩ := F'
    have n0 : ¬ nI s < 0 := nI_pos (by omega)
    have n1 : ¬ (1 : Int32) < nI s := nI_nlt (a := 1) (by omega) (by omega)
    have i2 : vp_in (nI s) 2 := vp_in_nI (by omega) (by omega)
    have cs : (nI s).toNatClampNeg = s := nI_clamp (by omega)
    have f7s := f7 s hs
    refine dx_held hs (fun e => ?_) (fun n hn e => ?_) (dv_PR_h f1.2.1 f7s)
    · refine br_t rfl (br_f n0 (br_f n1 ⟨i2, br_f ?_ ⟨rfl, R⟩⟩))
      rcases f7s with h | ⟨P, H, p1, p2, p3⟩
      · rw [cs, h.2]; decide
      · exact absurd (e.symm.trans p2) (dv_m1n (Nat.le_trans p1 f1.2.1))
    · refine br_f (by decide) ?_
      have i6 : vp_in (4 + nI s) 6 := by
        rw [show (4 : Int32) + nI s = nI (4 + s) from nI_add 4 s]
        exact vp_in_nI (by omega) (by omega)
      unfold wpX_freeSlot
      refine ⟨i2, nm_e ⟨i6, nm_e ?_⟩⟩
      refine br_f n0 (br_f n1 ⟨i2, br_t ?_ ⟨i2, nm_e ⟨rfl, ?_⟩⟩⟩)
      · rcases f7s with h | ⟨P, H, p1, p2, p3, p4⟩
        · exact absurd (h.1.symm.trans e) (dv_m1n hn)
        · rw [cs, p3]; exact nI_pos' (by have := f1.2.1; omega)
      · rw [cs, show (4 : Int32) + nI s = nI (4 + s) from nI_add 4 s, nI_clamp (by omega)]
        refine dv_in ⟨f1, f2, ?_, f4, f5, f6, ?_⟩
        · intro q hq
          rw [pk_un (by omega)]
          exact f3 q hq
        · intro q hq
          by_cases z : q = s
          · subst z
            exact Or.inl ⟨pk_us, pk_us⟩
          · rcases f7 q hq with h | ⟨P, H, p1, p2, p3, p4, p5, p6⟩
            · exact Or.inl ⟨(pk_un z).trans h.1, (pk_un z).trans h.2⟩
            · exact Or.inr ⟨P, H, p1, (pk_un z).trans p2, (pk_un z).trans p3, p4, (pk_un (by omega)).trans p5, p6⟩
theorem i_vc_patchLength {k : Nat} {u : SX} {v : SY} (I : i_Rel k u v) (hk : k + 4 ≤ 2052) (v1 : Int32) : wpX_patchLength (fun r => wpY_patchLength (fun r' => r' = r ∧ i_Rel (k + 4) u v) v v1) u v1 := by
  refine dv_el (P := fun u v => wpX_patchLength (fun r => wpY_patchLength (fun r' => r' = r ∧ i_Rel (k + 4) u v) v v1) u v1) I ?_
  intro xq0 xq1 xq2 xq3 xq4 xq5 xq6 xtl xdl xnc xsc xts xni xwl xsf xsl xss xws xwn xpn xle xla xbk xbz xba xbg xst xln xok xoo xpz xfh xsh xne xsm xwb xwk xwo xcu xsp xsa xpv xch xpt xpl ytl ydl ync ysc yrl yin ysl yss yws ywn ylc ytx yln ykd yor ypa ypz yrb yrk yro ycu yen ylr tl dl N S tx F
  have R : i_Rel (k + 4) (xq0, xq1, xq2, xq3, xq4, xq5, xq6, nI tl, nI dl, nI N, nI (16 * S), nI (dv_sz N S), xni, xwl, xsf, xsl, xss, xws, xwn, xpn, xle, xla, xbk, xbz, xba, xbg, xst, xln, xok, xoo, xpz, xfh, xsh, xne, xsm, xwb, xwk, xwo, xcu, xsp, xsa, xpv, xch, xpt, xpl) (nI tl, nI dl, nI N, nI S, yrl, yin, ysl, yss, yws, ywn, ylc, ytx, yln, ykd, yor, ypa, ypz, yrb, yrk, yro, ycu, yen, ylr) := dv_in F
  unfold wpX_patchLength
  rcases dv_ix (n := 1) (m := 1) v1 rfl (by omega) with h | ⟨h, h3⟩ | ⟨s, hs, rfl⟩
  · exact dx_held0 (Or.inl h) (br_t rfl (br_t h ⟨rfl, R⟩))
  · exact dx_held0 (Or.inr ⟨h, h3⟩) (br_t rfl (br_f h (br_f (Int32.not_le.mpr h3) ⟨rfl, R⟩)))
  · obtain ⟨f1, f2, f3, f4, f5, f6, f7⟩ := F
    have n0 : ¬ nI s < 0 := nI_pos (by omega)
    have n1 : nI s ≤ 1 := nI_le (b := 1) (by omega) (by omega)
    have i2 : vp_in (nI s) 2 := vp_in_nI (by omega) (by omega)
    have cs : (nI s).toNatClampNeg = s := nI_clamp (by omega)
    have f7s := f7 s hs
    refine dx_held hs (fun e => ?_) (fun n hn e => ?_) (dv_PR_h f1.2.1 f7s)
    · refine br_t rfl (br_f n0 (br_t n1 ⟨i2, ?_, R⟩))
      rcases f7s with h | ⟨P, H, p1, p2, p3⟩
      · rw [cs, h.2]
      · exact absurd (e.symm.trans p2) (dv_m1n (Nat.le_trans p1 f1.2.1))
    · refine br_f (by decide) ⟨i2, br_f n0 (br_t n1 ⟨i2, ?_, R⟩)⟩
      rcases f7s with h | ⟨P, H, p1, p2, p3, p4⟩
      · exact absurd (h.1.symm.trans e) (dv_m1n hn)
      · rw [cs, p3, p2]
theorem i_vc_patchAt {k : Nat} {u : SX} {v : SY} (I : i_Rel k u v) (hk : k + 4 ≤ 2052) (v1 : Int32) (v2 : Int32) : wpX_patchAt (fun r u' => wpY_patchAt (fun r' => r' = r ∧ i_Rel (k + 4) u' v) v v1 v2) u v1 v2 := by
  refine dv_el (P := fun u v => wpX_patchAt (fun r u' => wpY_patchAt (fun r' => r' = r ∧ i_Rel (k + 4) u' v) v v1 v2) u v1 v2) I ?_
  intro xq0 xq1 xq2 xq3 xq4 xq5 xq6 xtl xdl xnc xsc xts xni xwl xsf xsl xss xws xwn xpn xle xla xbk xbz xba xbg xst xln xok xoo xpz xfh xsh xne xsm xwb xwk xwo xcu xsp xsa xpv xch xpt xpl ytl ydl ync ysc yrl yin ysl yss yws ywn ylc ytx yln ykd yor ypa ypz yrb yrk yro ycu yen ylr tl dl N S tx F
  have R : i_Rel (k + 4) (xq0, xq1, xq2, xq3, xq4, xq5, xq6, nI tl, nI dl, nI N, nI (16 * S), nI (dv_sz N S), xni, xwl, xsf, xsl, xss, xws, xwn, xpn, xle, xla, xbk, xbz, xba, xbg, xst, xln, xok, xoo, xpz, xfh, xsh, xne, xsm, xwb, xwk, xwo, xcu, xsp, xsa, xpv, xch, xpt, xpl) (nI tl, nI dl, nI N, nI S, yrl, yin, ysl, yss, yws, ywn, ylc, ytx, yln, ykd, yor, ypa, ypz, yrb, yrk, yro, ycu, yen, ylr) := dv_in F
  unfold wpX_patchAt
  rcases dv_ix (n := 1) (m := 1) v1 rfl (by omega) with h | ⟨h, h3⟩ | ⟨s, hs, rfl⟩
  · exact dx_held0 (Or.inl h) (br_t rfl (br_t h ⟨rfl, R⟩))
  · exact dx_held0 (Or.inr ⟨h, h3⟩) (br_t rfl (br_f h (br_t h3 ⟨rfl, R⟩)))
  · have F' := F
    obtain ⟨f1, f2, f3, f4, f5, f6, f7⟩ := F'
    have p := f1
    obtain ⟨a1, a2, a3, a4, a5, a6⟩ := p
    have n0 : ¬ nI s < 0 := nI_pos (by omega)
    have n1 : ¬ (1 : Int32) < nI s := nI_nlt (a := 1) (by omega) (by omega)
    have i2 : vp_in (nI s) 2 := vp_in_nI (by omega) (by omega)
    have cs : (nI s).toNatClampNeg = s := nI_clamp (by omega)
    have f7s := f7 s hs
    refine dx_held hs (fun e => ?_) (fun n hn e => ?_) (dv_PR_h f1.2.1 f7s)
    · refine br_t rfl (br_f n0 (br_f n1 ?_))
      rcases f7s with h | ⟨P, H, p1, p2, p3⟩
      · refine br_c (fun _ => ⟨rfl, R⟩) (fun z => ⟨i2, br_f ?_ ⟨rfl, R⟩⟩)
        rw [cs, h.2]
        exact fun q => z (Int32.lt_trans q (by decide))
      · exact absurd (e.symm.trans p2) (dv_m1n (Nat.le_trans p1 f1.2.1))
    · refine br_f (by decide) ?_
      rcases f7s with h | ⟨P, H, p1, p2, p3, p4, p5, p6, p7, p8⟩
      · exact absurd (h.1.symm.trans e) (dv_m1n hn)
      · by_cases z : v2 < 0
        · exact br_t z (br_f n0 (br_f n1 (br_t z ⟨rfl, R⟩)))
        · obtain ⟨i, hi, rfl⟩ := nI_of z
          refine br_f z ⟨i2, pk_lt i P.length (fun lt => ?_) (fun ge => ?_) rfl (by rw [cs, p2])⟩
          · obtain ⟨l1, l2⟩ := dv_L128 f1 f2 (q := 0) (by omega) (by omega)
            have x0 := f3 0 (by omega)
            obtain ⟨g, eg, cg⟩ := p8 []
            rw [List.append_nil] at eg
            rw [show (4 : Int32) + nI s = nI (4 + s) from nI_add 4 s]
            refine dx_dec (row := 4 + s) a5 a6 a2 f5 (by omega) x0.2 x0.1 (by omega) p6 p5 p7 ?_ ?_
            · intro w g2 sf sg sp ws wn ni ne sm wb wk wo cu st e2 hw hW
              have ee := eg.symm.trans e2
              injection ee with ee
              injection ee with e3 e4
              subst e3 e4
              obtain ⟨w1, w2, w3, w4⟩ := hW i lt
              obtain ⟨q1, q2⟩ := p4 i lt
              refine br_t rfl (br_t (nI_lt lt (by omega)) ⟨vp_in_nI (by omega) (by omega), ?_⟩)
              refine br_f n0 (br_f n1 (br_f z ⟨i2, br_t (by rw [cs, p3]; exact nI_lt lt (by omega)) ?_⟩))
              have ey : nI s * 128 + nI i = nI (128 * s + i) := by rw [show nI s * 128 = nI (s * 128) from pk_mul s 128, nI_add, Nat.mul_comm]
              rw [ey, nI_clamp (by omega), nI_clamp (by omega), q1, w1, cg i lt]
              exact ⟨vp_in_nI (by omega) (by omega), rfl, dv_in F⟩
            · intro k2 a sf sg sp ws wn ni ne sm wb wk wo cu st h1 h2 e2
              rw [eg] at e2
              simp at e2
          · exact br_f n0 (br_f n1 (br_f z ⟨i2, br_f (by rw [cs, p3]; exact nI_nlt ge hi) ⟨rfl, R⟩⟩))
section
variable {ytl ydl ync ysc yrl yin ysl yss yws ywn ylc : Int32} {ytx yln ykd yor ypa ypz yrb yrk yro ycu yen ylr : Nat → Int32}
theorem dy_ap29 {post : Int32 → SY → Prop} {s : Nat} {P : List Nat} (hs : s < 2) (hP : P.length ≤ 128) (hz : ypz s = nI P.length) (hpa : dv_Seg ypa (128 * s) P) (tx0 ln0 : Nat → Int32) :
    ∀ (m f i : Nat) (ytx yln ykd yor : Nat → Int32), i + m = P.length → m < f →
    (∀ j, j < i → ytx (768 + j) = nI (dv_gl P j) ∧ ykd j = 0 ∧ yor j = -1) → (∀ j, j < 768 ∨ 768 + P.length ≤ j → ytx j = tx0 j) → yln 3 = nI i → (∀ q, q ≠ 3 → yln q = ln0 q) →
    (∀ tx ln kd or, (∀ j, j < P.length → tx (768 + j) = nI (dv_gl P j) ∧ kd j = 0 ∧ or j = -1) → (∀ j, j < 768 ∨ 768 + P.length ≤ j → tx j = tx0 j) → ln 3 = nI P.length → (∀ q, q ≠ 3 → ln q = ln0 q) → post 1 (ytl, ydl, ync, ysc, yrl, yin, ysl, yss, yws, ywn, ylc, tx, ln, kd, or, ypa, ypz, yrb, yrk, yro, ycu, yen, ylr)) →
    wY_applyPatch_29 post (nI s) f (nI i) ytl ydl ync ysc yrl yin ysl yss yws ywn ylc ytx yln ykd yor ypa ypz yrb yrk yro ycu yen ylr := by
  have i2 : vp_in (nI s) 2 := vp_in_nI (by omega) (by omega)
  have cs : (nI s).toNatClampNeg = s := nI_clamp (by omega)
  intro m
  induction m with
  | zero =>
    intro f i ytx yln ykd yor hi hf h1 h2 h3 h4 fin
    obtain ⟨f, rfl⟩ : ∃ m, f = m + 1 := ⟨f - 1, by omega⟩
    obtain rfl : i = P.length := by omega
    exact ⟨i2, br_t (by rw [cs, hz]; exact nI_le (by omega) (by omega)) (fin _ _ _ _ h1 h2 h3 h4)⟩
  | succ m ih =>
    intro f i ytx yln ykd yor hi hf h1 h2 h3 h4 fin
    obtain ⟨f, rfl⟩ : ∃ m, f = m + 1 := ⟨f - 1, by omega⟩
    obtain ⟨w1, w2⟩ := hpa i (by omega)
    have ii : vp_in (nI i) 128 := vp_in_nI (by omega) (by omega)
    have ey : nI s * 128 + nI i = nI (128 * s + i) := by rw [show nI s * 128 = nI (s * 128) from pk_mul s 128, nI_add, Nat.mul_comm]
    refine ⟨i2, br_f (by rw [cs, hz]; exact nI_ge (by omega) (by omega)) ?_⟩
    rw [ey, nI_clamp (n := 128 * s + i) (by omega), w1]
    refine ⟨vp_in_nI (by omega) (by omega), dy_push (r := 3) (n := i) (by omega) h3 (by omega) (dv_m255 w2) ?_⟩
    refine ⟨ii, nm_e ⟨ii, nm_e (nm_r (nI_1 i) ?_)⟩⟩
    rw [nI_clamp (by omega)]
    refine ih f (i + 1) _ _ _ _ (by omega) (by omega) ?_ ?_ pk_us ?_ fin
    · intro j hj
      by_cases y : j = i
      · subst y
        rw [pk_us, pk_us, pk_us]
        exact ⟨rfl, rfl, rfl⟩
      · rw [pk_un y, pk_un y, pk_un (by omega)]
        exact h1 j (by omega)
    · intro j hj
      rw [pk_un (by omega)]
      exact h2 j hj
    · intro q hq
      rw [pk_un hq]
      exact h4 q hq
end
theorem i_vc_applyPatch {k : Nat} {u : SX} {v : SY} (I : i_Rel k u v) (hk : k + 4 ≤ 2052) (v1 : Int32) : wpX_applyPatch (fun r u' => wpY_applyPatch (fun r' v' => r' = r ∧ i_Rel (k + 4) u' v') v v1) u v1 := by
  refine dv_el (P := fun u v => wpX_applyPatch (fun r u' => wpY_applyPatch (fun r' v' => r' = r ∧ i_Rel (k + 4) u' v') v v1) u v1) I ?_
  intro xq0 xq1 xq2 xq3 xq4 xq5 xq6 xtl xdl xnc xsc xts xni xwl xsf xsl xss xws xwn xpn xle xla xbk xbz xba xbg xst xln xok xoo xpz xfh xsh xne xsm xwb xwk xwo xcu xsp xsa xpv xch xpt xpl ytl ydl ync ysc yrl yin ysl yss yws ywn ylc ytx yln ykd yor ypa ypz yrb yrk yro ycu yen ylr tl dl N S tx F
  have R : i_Rel (k + 4) (xq0, xq1, xq2, xq3, xq4, xq5, xq6, nI tl, nI dl, nI N, nI (16 * S), nI (dv_sz N S), xni, xwl, xsf, xsl, xss, xws, xwn, xpn, xle, xla, xbk, xbz, xba, xbg, xst, xln, xok, xoo, xpz, xfh, xsh, xne, xsm, xwb, xwk, xwo, xcu, xsp, xsa, xpv, xch, xpt, xpl) (nI tl, nI dl, nI N, nI S, yrl, yin, ysl, yss, yws, ywn, ylc, ytx, yln, ykd, yor, ypa, ypz, yrb, yrk, yro, ycu, yen, ylr) := dv_in F
  unfold wpX_applyPatch
  rcases dv_ix (n := 1) (m := 1) v1 rfl (by omega) with h | ⟨h, h3⟩ | ⟨s, hs, rfl⟩
  · exact dx_held0 (Or.inl h) (br_t rfl (br_t h ⟨rfl, R⟩))
  · exact dx_held0 (Or.inr ⟨h, h3⟩) (br_t rfl (br_f h (br_t h3 ⟨rfl, R⟩)))
  · have F' := F
    obtain ⟨f1, f2, f3, f4, f5, f6, f7⟩ := F'
    have p := f1
    obtain ⟨a1, a2, a3, a4, a5, a6⟩ := p
    have n0 : ¬ nI s < 0 := nI_pos (by omega)
    have n1 : ¬ (1 : Int32) < nI s := nI_nlt (a := 1) (by omega) (by omega)
    have i2 : vp_in (nI s) 2 := vp_in_nI (by omega) (by omega)
    have cs : (nI s).toNatClampNeg = s := nI_clamp (by omega)
    have f7s := f7 s hs
    refine dx_held hs (fun e => ?_) (fun n hn e => ?_) (dv_PR_h f1.2.1 f7s)
    · refine br_t rfl (br_f n0 (br_f n1 ⟨i2, br_f ?_ ⟨rfl, R⟩⟩))
      rcases f7s with h | ⟨P, H, p1, p2, p3⟩
      · rw [cs, h.2]; decide
      · exact absurd (e.symm.trans p2) (dv_m1n (Nat.le_trans p1 f1.2.1))
    · refine br_f (by decide) ?_
      rcases f7s with h | ⟨P, H, p1, p2, p3, p4, p5, p6, p7, p8⟩
      · exact absurd (h.1.symm.trans e) (dv_m1n hn)
      · obtain ⟨l1, l2⟩ := dv_L128 f1 f2 (q := 0) (by omega) (by omega)
        have x0 := f3 0 (by omega)
        obtain ⟨g, eg, cg⟩ := p8 []
        rw [List.append_nil] at eg
        rw [show (4 : Int32) + nI s = nI (4 + s) from nI_add 4 s]
        refine dx_dec (row := 4 + s) a5 a6 a2 f5 (by omega) x0.2 x0.1 (by omega) p6 p5 p7 ?_ ?_
        · intro w g2 sf sg sp ws wn ni ne sm wb wk wo cu st e2 hw hW
          have ee := eg.symm.trans e2
          injection ee with ee
          injection ee with e3 e4
          subst e3 e4
          refine br_t rfl (dx_pub (by omega) hW fun st' ok' oo' q1 q2 q3 => ?_)
          refine br_f n0 (br_f n1 ⟨i2, br_t (by rw [cs, p3]; exact nI_pos' (by omega)) (nm_e ⟨P.length + 1, ?_⟩)⟩)
          refine dy_ap29 hs (by omega) p3 p4 ytx yln P.length _ 0 _ _ _ _ (by omega) (by omega) (fun j hj => absurd hj (Nat.not_lt_zero j)) (fun j _ => rfl) pk_us (fun q hq => pk_un hq) ?_
          intro tx2 ln2 kd2 or2 r1 r2 r3 r4
          have eo : dv_out P.length g = P := by
            apply List.ext_getElem
            · exact dv_out_len _ _
            · intro i h1 h2
              have := cg i h2
              rw [← dv_out_gl h2] at this
              unfold dv_gl at this
              rw [List.getD_eq_getElem?_getD, List.getD_eq_getElem?_getD, List.getElem?_eq_getElem h1, List.getElem?_eq_getElem h2] at this
              exact this
          rw [eo] at q1
          refine ⟨rfl, dv_in (dv_keep (tx' := dv_up tx 3 P) (M := []) F ?_ (dv_LM_up f2 ?_) ?_ (fun j hj => q3 j (by omega)) (fun q hq => pk_un (by omega)) ?_ ?_)⟩
          · rw [dv_up_n (by omega), List.append_nil]
          · unfold dv_lim; rw [if_neg (by omega)]; exact p1
          · refine dv_TX_up f3 pk_us (fun q hq hne => pk_un hne) q1 (fun q hq hne i hi => q3 _ ?_)
            have := dv_L256 f1 f2 hq
            omega
          · refine dv_TY_up f4 r3 (fun q hq hne => r4 q hne) ?_ (fun q hq hne i hi => r2 _ ?_)
            · exact fun i hi => ⟨(r1 i hi).1, (p4 i hi).2⟩
            · have := dv_L256 f1 f2 hq
              omega
          · rw [dv_up_s]
            intro j hj
            obtain ⟨a, b⟩ := (q2 j hj).1 rfl
            obtain ⟨_, c, d⟩ := r1 j hj
            exact ⟨a.trans c.symm, b.trans d.symm⟩
        · intro k2 a sf sg sp ws wn ni ne sm wb wk wo cu st h1 h2 e2
          rw [eg] at e2
          simp at e2
end
section
/-! X: the code table, the constructors -/
theorem dv_TA {N S a : Nat} (ha : a < 18) : dv_T N S (1 + a) = (1 + 4 * a, 0) := by
  unfold dv_T
  rw [if_neg (by omega), if_pos (by omega), show 1 + a - 1 = a by omega]
theorem dv_TC0 {N S m : Nat} (hm : m < 2 + N + S) : dv_T N S (19 + 16 * m) = (3 + 128 * m, 0) := by
  unfold dv_T
  rw [if_neg (by omega), if_neg (by omega), if_pos (by omega), if_pos (by omega), show (19 + 16 * m - 19) / 16 = m by omega]
theorem dv_TC {N S m c : Nat} (hm : m < 2 + N + S) (h4 : 4 ≤ c) (hc : c < 19) : dv_T N S (19 + 16 * m + c - 3) = (3 + 4 * c + 128 * m, 0) := by
  unfold dv_T
  rw [if_neg (by omega), if_neg (by omega), if_pos (by omega), if_neg (by omega), show (19 + 16 * m + c - 3 - 19) / 16 = m by omega, show (19 + 16 * m + c - 3 - 19) % 16 + 3 = c by omega]
theorem dv_TD {N S m a c : Nat} (hm : m < N + 2) (h1 : 1 ≤ a) (ha : a < 5) (h4 : 4 ≤ c) (hc : c < 7) : dv_T N S (19 + 16 * (2 + N + S) + 12 * m + 3 * (a - 1) + c - 4) = (1 + 4 * a, 3 + 4 * c + 128 * m) := by
  unfold dv_T
  generalize hq : 19 + 16 * (2 + N + S) = q
  rw [if_neg (by omega), if_neg (by omega), if_neg (by omega), if_pos (by omega)]
  have e1 : (q + 12 * m + 3 * (a - 1) + c - 4 - q) / 3 % 4 + 1 = a := by omega
  have e2 : (q + 12 * m + 3 * (a - 1) + c - 4 - q) % 3 + 4 = c := by omega
  have e3 : (q + 12 * m + 3 * (a - 1) + c - 4 - q) / 12 = m := by omega
  rw [e1, e2, e3]
theorem dv_TE {N S m a : Nat} (hm : N + 2 ≤ m) (hm2 : m < 2 + N + S) (h1 : 1 ≤ a) (ha : a < 5) : dv_T N S (19 + 16 * (2 + N + S) + 12 * (N + 2) + 4 * (m - (N + 2)) + a - 1) = (1 + 4 * a, 19 + 128 * m) := by
  unfold dv_T
  generalize hq : 19 + 16 * (2 + N + S) = q
  rw [if_neg (by omega), if_neg (by omega), if_neg (by omega), if_neg (by omega), if_pos (by omega)]
  have e1 : (q + 12 * (N + 2) + 4 * (m - (N + 2)) + a - 1 - (q + 12 * (N + 2))) % 4 + 1 = a := by omega
  have e2 : (q + 12 * (N + 2) + 4 * (m - (N + 2)) + a - 1 - (q + 12 * (N + 2))) / 4 + N + 2 = m := by omega
  rw [e1, e2]
theorem dv_TF {N S m : Nat} : dv_T N S (19 + 16 * (2 + N + S) + 12 * (N + 2) + 4 * S + m) = (19 + 128 * m, 5) := by
  unfold dv_T
  generalize hq : 19 + 16 * (2 + N + S) = q
  rw [if_neg (by omega), if_neg (by omega), if_neg (by omega), if_neg (by omega), if_neg (by omega)]
  have e1 : q + 12 * (N + 2) + 4 * S + m - (q + 12 * (N + 2) + 4 * S) = m := by omega
  rw [e1]
def dv_tb (f : Nat → Nat) (c : Nat) : Nat → Int32 := fun j => if j < c then nI (f j) else 0
theorem dv_tb_s {f : Nat → Nat} {c : Nat} {v : Nat} (h : f c = v) : upd (dv_tb f c) c (nI v) = dv_tb f (c + 1) := by
  subst h
  funext j
  unfold dv_tb upd
  by_cases z : j = c
  · subst z; rw [if_pos rfl, if_pos (by omega)]
  · rw [if_neg z]
    dsimp only
    by_cases y : j < c
    · rw [if_pos y, if_pos (by omega)]
    · rw [if_neg y, if_neg (by omega)]
theorem dv_tb_z {f : Nat → Nat} {c : Nat} (h : f c = 0) : dv_tb f c = dv_tb f (c + 1) := by
  funext j
  unfold dv_tb
  by_cases z : j = c
  · subst z; rw [if_neg (by omega), if_pos (by omega), h]; rfl
  · by_cases y : j < c
    · rw [if_pos y, if_pos (by omega)]
    · rw [if_neg y, if_neg (by omega)]
theorem dv_tb_0 {f : Nat → Nat} : (fun _ => 0 : Nat → Int32) = dv_tb f 0 := by
  funext j
  unfold dv_tb
  rw [if_neg (by omega)]
section
variable {xq0 xq1 xq2 xq3 xq4 xq5 xq6 xtl xdl xnc xsc xts xni xwl xsf xsl xss xws xwn xpn xle xla xbk xbz xba xbg : Int32} {xst xln xok xoo xpz xfh xsh xne xsm xwb xwk xwo xcu xsp xsa xpv xch xpt xpl : Nat → Int32}
variable {N S : Nat}
theorem dx_211 {post : SX → Prop} (hN : N ≤ 4) (hS : S ≤ 3) (ok : post (xq0, xq1, xq2, xq3, xq4, xq5, xq6, xtl, xdl, xnc, xsc, xts, xni, xwl, xsf, xsl, xss, xws, xwn, xpn, xle, xla, xbk, xbz, xba, xbg, xst, xln, xok, xoo, xpz, dv_tb (dv_T1 N S) (dv_sz N S), dv_tb (dv_T2 N S) (dv_sz N S), xne, xsm, xwb, xwk, xwo, xcu, xsp, xsa, xpv, xch, xpt, xpl)) :
    ∀ (k n m : Nat), m + k = 2 + N + S → k < n →
    wX_buildPairs_211 post (nI (2 + N + S)) (nI (19 + 16 * (2 + N + S) + 12 * (N + 2) + 4 * S)) xq0 xq1 xq2 xq3 xq4 xq5 xq6 xtl xdl xnc xsc xts xni xwl xsf xsl xss xws xwn xpn xle xla xbk xbz xba xbg n (nI m) xst xln xok xoo xpz (dv_tb (dv_T1 N S) (19 + 16 * (2 + N + S) + 12 * (N + 2) + 4 * S + m)) (dv_tb (dv_T2 N S) (19 + 16 * (2 + N + S) + 12 * (N + 2) + 4 * S + m)) xne xsm xwb xwk xwo xcu xsp xsa xpv xch xpt xpl := by
  intro k
  induction k with
  | zero =>
    intro n m hm hn
    obtain ⟨n, rfl⟩ : ∃ m, n = m + 1 := ⟨n - 1, by omega⟩
    have e : 19 + 16 * (2 + N + S) + 12 * (N + 2) + 4 * S + m = dv_sz N S := by unfold dv_sz; omega
    rw [e]
    exact br_t (nI_le (by omega) (by omega)) ok
  | succ k ih =>
    intro n m hm hn
    obtain ⟨n, rfl⟩ : ∃ m, n = m + 1 := ⟨n - 1, by omega⟩
    have nx := ih n (m + 1) (by omega) (by omega)
    have t1 : dv_T1 N S (19 + 16 * (2 + N + S) + 12 * (N + 2) + 4 * S + m) = 19 + 128 * m := by unfold dv_T1; rw [dv_TF]
    have t2 : dv_T2 N S (19 + 16 * (2 + N + S) + 12 * (N + 2) + 4 * S + m) = 5 := by unfold dv_T2; rw [dv_TF]
    refine br_f (nI_ge (by omega) (by omega)) ?_
    rw [nI_add, nI_clamp (by omega), dv_q3, dv_tb_s t1]
    refine ⟨vp_in_nI (by omega) (by omega), nm_e ⟨vp_in_nI (by omega) (by omega), nm_r (dv_tb_s t2) (nm_r (nI_1 m) nx)⟩⟩
theorem dx_145 {post : SX → Prop} {J : Int32 → (Nat → Int32) → (Nat → Int32) → (Nat → Int32) → (Nat → Int32) → (Nat → Int32) → (Nat → Int32) → (Nat → Int32) → (Nat → Int32) → (Nat → Int32) → (Nat → Int32) → (Nat → Int32) → (Nat → Int32) → (Nat → Int32) → (Nat → Int32) → (Nat → Int32) → (Nat → Int32) → (Nat → Int32) → (Nat → Int32) → (Nat → Int32) → Prop} {ts m : Nat} (hN : N ≤ 4) (hS : S ≤ 3) (hm : N + 2 ≤ m) (hm2 : m < 2 + N + S)
    (ok : J (nI (m + 1)) xst xln xok xoo xpz (dv_tb (dv_T1 N S) (19 + 16 * (2 + N + S) + 12 * (N + 2) + 4 * (m + 1 - (N + 2)))) (dv_tb (dv_T2 N S) (19 + 16 * (2 + N + S) + 12 * (N + 2) + 4 * (m + 1 - (N + 2)))) xne xsm xwb xwk xwo xcu xsp xsa xpv xch xpt xpl) :
    ∀ (k n a : Nat), a + k = 5 → 1 ≤ a → k < n →
    wX_buildPairs_145 post J (nI (2 + N + S)) (nI (N + 2)) (nI (19 + 16 * (2 + N + S) + 12 * (N + 2))) (nI ts) (nI m) xq0 xq1 xq2 xq3 xq4 xq5 xq6 xtl xdl xnc xsc xts xni xwl xsf xsl xss xws xwn xpn xle xla xbk xbz xba xbg n (nI a) xst xln xok xoo xpz (dv_tb (dv_T1 N S) (19 + 16 * (2 + N + S) + 12 * (N + 2) + 4 * (m - (N + 2)) + a - 1)) (dv_tb (dv_T2 N S) (19 + 16 * (2 + N + S) + 12 * (N + 2) + 4 * (m - (N + 2)) + a - 1)) xne xsm xwb xwk xwo xcu xsp xsa xpv xch xpt xpl := by
  intro k
  induction k with
  | zero =>
    intro n a ha h1 hn
    obtain ⟨n, rfl⟩ : ∃ m, n = m + 1 := ⟨n - 1, by omega⟩
    obtain rfl : a = 5 := by omega
    have e : 19 + 16 * (2 + N + S) + 12 * (N + 2) + 4 * (m - (N + 2)) + 5 - 1 = 19 + 16 * (2 + N + S) + 12 * (N + 2) + 4 * (m + 1 - (N + 2)) := by omega
    rw [e]
    exact br_t (nI_lt (a := 4) (b := 5) (by omega) (by omega)) (nm_r (nI_1 m) ok)
  | succ k ih =>
    intro n a ha h1 hn
    obtain ⟨n, rfl⟩ : ∃ m, n = m + 1 := ⟨n - 1, by omega⟩
    have nx := ih n (a + 1) (by omega) (by omega) (by omega)
    have e : 19 + 16 * (2 + N + S) + 12 * (N + 2) + 4 * (m - (N + 2)) + (a + 1) - 1 = 19 + 16 * (2 + N + S) + 12 * (N + 2) + 4 * (m - (N + 2)) + a - 1 + 1 := by omega
    rw [e] at nx
    have t1 : dv_T1 N S (19 + 16 * (2 + N + S) + 12 * (N + 2) + 4 * (m - (N + 2)) + a - 1) = 1 + 4 * a := by unfold dv_T1; rw [dv_TE hm hm2 h1 (by omega)]
    have t2 : dv_T2 N S (19 + 16 * (2 + N + S) + 12 * (N + 2) + 4 * (m - (N + 2)) + a - 1) = 19 + 128 * m := by unfold dv_T2; rw [dv_TE hm hm2 h1 (by omega)]
    have ei : nI (19 + 16 * (2 + N + S) + 12 * (N + 2)) + 4 * (nI m - nI (N + 2)) + nI a - 1 = nI (19 + 16 * (2 + N + S) + 12 * (N + 2) + 4 * (m - (N + 2)) + a - 1) := by
      rw [pk_sub hm, show (4 : Int32) = nI 4 from rfl, pk_mul, nI_add, nI_add]
      exact pk_sub (b := 1) (by omega)
    refine br_f (nI_nlt (a := 4) (by omega) (by omega)) (nm_r ei ?_)
    rw [nI_clamp (by omega), dv_q1, dv_q3]
    exact ⟨vp_in_nI (by omega) (by omega), nm_r (dv_tb_s t1) ⟨vp_in_nI (by omega) (by omega), nm_r (dv_tb_s t2) (nm_r (nI_1 a) nx)⟩⟩
theorem dx_136 {post : SX → Prop} (hN : N ≤ 4) (hS : S ≤ 3) (ok : post (xq0, xq1, xq2, xq3, xq4, xq5, xq6, xtl, xdl, xnc, xsc, xts, xni, xwl, xsf, xsl, xss, xws, xwn, xpn, xle, xla, xbk, xbz, xba, xbg, xst, xln, xok, xoo, xpz, dv_tb (dv_T1 N S) (dv_sz N S), dv_tb (dv_T2 N S) (dv_sz N S), xne, xsm, xwb, xwk, xwo, xcu, xsp, xsa, xpv, xch, xpt, xpl)) :
    ∀ (k n m : Nat), m + k = 2 + N + S → N + 2 ≤ m → k < n →
    wX_buildPairs_136 post (nI (2 + N + S)) (nI (N + 2)) (nI (19 + 16 * (2 + N + S) + 12 * (N + 2))) (nI (19 + 16 * (2 + N + S) + 12 * (N + 2) + 4 * S)) xq0 xq1 xq2 xq3 xq4 xq5 xq6 xtl xdl xnc xsc xts xni xwl xsf xsl xss xws xwn xpn xle xla xbk xbz xba xbg n (nI m) xst xln xok xoo xpz (dv_tb (dv_T1 N S) (19 + 16 * (2 + N + S) + 12 * (N + 2) + 4 * (m - (N + 2)))) (dv_tb (dv_T2 N S) (19 + 16 * (2 + N + S) + 12 * (N + 2) + 4 * (m - (N + 2)))) xne xsm xwb xwk xwo xcu xsp xsa xpv xch xpt xpl := by
  intro k
  induction k with
  | zero =>
    intro n m hm h2 hn
    obtain ⟨n, rfl⟩ : ∃ m, n = m + 1 := ⟨n - 1, by omega⟩
    have e : 19 + 16 * (2 + N + S) + 12 * (N + 2) + 4 * (m - (N + 2)) = 19 + 16 * (2 + N + S) + 12 * (N + 2) + 4 * S + 0 := by omega
    rw [e]
    exact br_t (nI_le (by omega) (by omega)) ⟨_, dx_211 hN hS ok (2 + N + S) (2 + N + S + 1) 0 (by omega) (by omega)⟩
  | succ k ih =>
    intro n m hm h2 hn
    obtain ⟨n, rfl⟩ : ∃ m, n = m + 1 := ⟨n - 1, by omega⟩
    exact br_f (nI_ge (by omega) (by omega)) ⟨5, dx_145 hN hS h2 (by omega) (ih n (m + 1) (by omega) (by omega) (by omega)) 4 5 1 (by omega) (by omega) (by omega)⟩
theorem dx_53 {post : SX → Prop} {J1 J2 : Int32 → (Nat → Int32) → (Nat → Int32) → (Nat → Int32) → (Nat → Int32) → (Nat → Int32) → (Nat → Int32) → (Nat → Int32) → (Nat → Int32) → (Nat → Int32) → (Nat → Int32) → (Nat → Int32) → (Nat → Int32) → (Nat → Int32) → (Nat → Int32) → (Nat → Int32) → (Nat → Int32) → (Nat → Int32) → (Nat → Int32) → (Nat → Int32) → Prop} {ss ts m a : Nat} (hN : N ≤ 4) (hS : S ≤ 3) (hm : m < N + 2) (h1 : 1 ≤ a) (ha : a < 5)
    (ok : J2 (nI (a + 1)) xst xln xok xoo xpz (dv_tb (dv_T1 N S) (19 + 16 * (2 + N + S) + 12 * m + 3 * (a + 1 - 1))) (dv_tb (dv_T2 N S) (19 + 16 * (2 + N + S) + 12 * m + 3 * (a + 1 - 1))) xne xsm xwb xwk xwo xcu xsp xsa xpv xch xpt xpl) :
    ∀ (k n c : Nat), c + k = 7 → 4 ≤ c → k < n →
    wX_buildPairs_53 post J1 J2 (nI (2 + N + S)) (nI (N + 2)) (nI (19 + 16 * (2 + N + S))) (nI ss) (nI ts) (nI m) (nI a) xq0 xq1 xq2 xq3 xq4 xq5 xq6 xtl xdl xnc xsc xts xni xwl xsf xsl xss xws xwn xpn xle xla xbk xbz xba xbg n (nI c) xst xln xok xoo xpz (dv_tb (dv_T1 N S) (19 + 16 * (2 + N + S) + 12 * m + 3 * (a - 1) + c - 4)) (dv_tb (dv_T2 N S) (19 + 16 * (2 + N + S) + 12 * m + 3 * (a - 1) + c - 4)) xne xsm xwb xwk xwo xcu xsp xsa xpv xch xpt xpl := by
  intro k
  induction k with
  | zero =>
    intro n c hc h4 hn
    obtain ⟨n, rfl⟩ : ∃ m, n = m + 1 := ⟨n - 1, by omega⟩
    obtain rfl : c = 7 := by omega
    have e : 19 + 16 * (2 + N + S) + 12 * m + 3 * (a - 1) + 7 - 4 = 19 + 16 * (2 + N + S) + 12 * m + 3 * (a + 1 - 1) := by omega
    rw [e]
    exact br_t (nI_lt (a := 6) (b := 7) (by omega) (by omega)) (nm_r (nI_1 a) ok)
  | succ k ih =>
    intro n c hc h4 hn
    obtain ⟨n, rfl⟩ : ∃ m, n = m + 1 := ⟨n - 1, by omega⟩
    have nx := ih n (c + 1) (by omega) (by omega) (by omega)
    have e : 19 + 16 * (2 + N + S) + 12 * m + 3 * (a - 1) + (c + 1) - 4 = 19 + 16 * (2 + N + S) + 12 * m + 3 * (a - 1) + c - 4 + 1 := by omega
    rw [e] at nx
    have t1 : dv_T1 N S (19 + 16 * (2 + N + S) + 12 * m + 3 * (a - 1) + c - 4) = 1 + 4 * a := by unfold dv_T1; rw [dv_TD hm h1 ha h4 (by omega)]
    have t2 : dv_T2 N S (19 + 16 * (2 + N + S) + 12 * m + 3 * (a - 1) + c - 4) = 3 + 4 * c + 128 * m := by unfold dv_T2; rw [dv_TD hm h1 ha h4 (by omega)]
    have ei : nI (19 + 16 * (2 + N + S)) + 12 * nI m + 3 * (nI a - 1) + nI c - 4 = nI (19 + 16 * (2 + N + S) + 12 * m + 3 * (a - 1) + c - 4) := by
      rw [show nI a - 1 = nI (a - 1) from pk_sub (b := 1) h1, show (12 : Int32) = nI 12 from rfl, pk_mul, show (3 : Int32) = nI 3 from rfl, pk_mul, nI_add, nI_add, nI_add]
      exact pk_sub (b := 4) (by omega)
    refine br_f (nI_nlt (a := 6) (by omega) (by omega)) (nm_r ei ?_)
    rw [nI_clamp (by omega), dv_q1, dv_q2]
    exact ⟨vp_in_nI (by omega) (by omega), nm_r (dv_tb_s t1) ⟨vp_in_nI (by omega) (by omega), nm_r (dv_tb_s t2) (nm_r (nI_1 c) nx)⟩⟩
theorem dx_44 {post : SX → Prop} {J1 : Int32 → (Nat → Int32) → (Nat → Int32) → (Nat → Int32) → (Nat → Int32) → (Nat → Int32) → (Nat → Int32) → (Nat → Int32) → (Nat → Int32) → (Nat → Int32) → (Nat → Int32) → (Nat → Int32) → (Nat → Int32) → (Nat → Int32) → (Nat → Int32) → (Nat → Int32) → (Nat → Int32) → (Nat → Int32) → (Nat → Int32) → (Nat → Int32) → Prop} {ss ts m : Nat} (hN : N ≤ 4) (hS : S ≤ 3) (hm : m < N + 2)
    (ok : J1 (nI (m + 1)) xst xln xok xoo xpz (dv_tb (dv_T1 N S) (19 + 16 * (2 + N + S) + 12 * (m + 1))) (dv_tb (dv_T2 N S) (19 + 16 * (2 + N + S) + 12 * (m + 1))) xne xsm xwb xwk xwo xcu xsp xsa xpv xch xpt xpl) :
    ∀ (k n a : Nat), a + k = 5 → 1 ≤ a → k < n →
    wX_buildPairs_44 post J1 (nI (2 + N + S)) (nI (N + 2)) (nI (19 + 16 * (2 + N + S))) (nI ss) (nI ts) (nI m) xq0 xq1 xq2 xq3 xq4 xq5 xq6 xtl xdl xnc xsc xts xni xwl xsf xsl xss xws xwn xpn xle xla xbk xbz xba xbg n (nI a) xst xln xok xoo xpz (dv_tb (dv_T1 N S) (19 + 16 * (2 + N + S) + 12 * m + 3 * (a - 1))) (dv_tb (dv_T2 N S) (19 + 16 * (2 + N + S) + 12 * m + 3 * (a - 1))) xne xsm xwb xwk xwo xcu xsp xsa xpv xch xpt xpl := by
  intro k
  induction k with
  | zero =>
    intro n a ha h1 hn
    obtain ⟨n, rfl⟩ : ∃ m, n = m + 1 := ⟨n - 1, by omega⟩
    obtain rfl : a = 5 := by omega
    have e : 19 + 16 * (2 + N + S) + 12 * m + 3 * (5 - 1) = 19 + 16 * (2 + N + S) + 12 * (m + 1) := by omega
    rw [e]
    exact br_t (nI_lt (a := 4) (b := 5) (by omega) (by omega)) (nm_r (nI_1 m) ok)
  | succ k ih =>
    intro n a ha h1 hn
    obtain ⟨n, rfl⟩ : ∃ m, n = m + 1 := ⟨n - 1, by omega⟩
    exact br_f (nI_nlt (a := 4) (by omega) (by omega)) ⟨4, dx_53 hN hS hm h1 (by omega) (ih n (a + 1) (by omega) (by omega) (by omega)) 3 4 4 (by omega) (by omega) (by omega)⟩
theorem dx_35 {post : SX → Prop} (hN : N ≤ 4) (hS : S ≤ 3) (ok : post (xq0, xq1, xq2, xq3, xq4, xq5, xq6, xtl, xdl, xnc, xsc, xts, xni, xwl, xsf, xsl, xss, xws, xwn, xpn, xle, xla, xbk, xbz, xba, xbg, xst, xln, xok, xoo, xpz, dv_tb (dv_T1 N S) (dv_sz N S), dv_tb (dv_T2 N S) (dv_sz N S), xne, xsm, xwb, xwk, xwo, xcu, xsp, xsa, xpv, xch, xpt, xpl)) :
    ∀ (k n m : Nat), m + k = N + 2 → k < n →
    wX_buildPairs_35 post (nI (2 + N + S)) (nI (N + 2)) (nI (19 + 16 * (2 + N + S))) (nI (19 + 16 * (2 + N + S) + 12 * (N + 2))) (nI (19 + 16 * (2 + N + S) + 12 * (N + 2) + 4 * S)) xq0 xq1 xq2 xq3 xq4 xq5 xq6 xtl xdl xnc xsc xts xni xwl xsf xsl xss xws xwn xpn xle xla xbk xbz xba xbg n (nI m) xst xln xok xoo xpz (dv_tb (dv_T1 N S) (19 + 16 * (2 + N + S) + 12 * m)) (dv_tb (dv_T2 N S) (19 + 16 * (2 + N + S) + 12 * m)) xne xsm xwb xwk xwo xcu xsp xsa xpv xch xpt xpl := by
  intro k
  induction k with
  | zero =>
    intro n m hm hn
    obtain ⟨n, rfl⟩ : ∃ m, n = m + 1 := ⟨n - 1, by omega⟩
    obtain rfl : m = N + 2 := by omega
    have e : 19 + 16 * (2 + N + S) + 12 * (N + 2) = 19 + 16 * (2 + N + S) + 12 * (N + 2) + 4 * (N + 2 - (N + 2)) := by omega
    have fin := dx_136 (post := post) hN hS ok S (S + 1) (N + 2) (by omega) (by omega) (by omega)
    rw [← e] at fin
    exact br_t (nI_le (by omega) (by omega)) ⟨_, fin⟩
  | succ k ih =>
    intro n m hm hn
    obtain ⟨n, rfl⟩ : ∃ m, n = m + 1 := ⟨n - 1, by omega⟩
    exact br_f (nI_ge (by omega) (by omega)) ⟨5, dx_44 hN hS (by omega) (ih n (m + 1) (by omega) (by omega)) 4 5 1 (by omega) (by omega) (by omega)⟩
theorem dx_bp {post : SX → Prop} (hN : N ≤ 4) (hS : S ≤ 3) (ok : post (xq0, xq1, xq2, xq3, xq4, xq5, xq6, xtl, xdl, xnc, xsc, xts, xni, xwl, xsf, xsl, xss, xws, xwn, xpn, xle, xla, xbk, xbz, xba, xbg, xst, xln, xok, xoo, xpz, dv_tb (dv_T1 N S) (dv_sz N S), dv_tb (dv_T2 N S) (dv_sz N S), xne, xsm, xwb, xwk, xwo, xcu, xsp, xsa, xpv, xch, xpt, xpl)) :
    wpX_buildPairs post (xq0, xq1, xq2, xq3, xq4, xq5, xq6, xtl, xdl, xnc, xsc, xts, xni, xwl, xsf, xsl, xss, xws, xwn, xpn, xle, xla, xbk, xbz, xba, xbg, xst, xln, xok, xoo, xpz, dv_tb (dv_T1 N S) (19 + 16 * (2 + N + S)), dv_tb (dv_T2 N S) (19 + 16 * (2 + N + S)), xne, xsm, xwb, xwk, xwo, xcu, xsp, xsa, xpv, xch, xpt, xpl) (nI N) (nI (2 + N + S)) := by
  unfold wpX_buildPairs
  refine nm_r (e' := nI (N + 2)) (nI_add N 2) (nm_r (dv_q5 _) (nm_r (e' := nI (19 + 16 * (2 + N + S) + 12 * (N + 2))) ?_ (nm_r (e' := nI (19 + 16 * (2 + N + S) + 12 * (N + 2) + 4 * S)) ?_ ⟨_, dx_35 hN hS ok (N + 2) (N + 2 + 1) 0 (by omega) (by omega)⟩)))
  · rw [show (12 : Int32) = nI 12 from rfl, pk_mul, nI_add]
  · rw [pk_sub (a := 2 + N + S) (b := N + 2) (by omega), show (4 : Int32) = nI 4 from rfl, pk_mul, nI_add, show 2 + N + S - (N + 2) = S by omega]
theorem dx_81 {post : SX → Prop} {J : Int32 → (Nat → Int32) → (Nat → Int32) → (Nat → Int32) → (Nat → Int32) → (Nat → Int32) → (Nat → Int32) → (Nat → Int32) → (Nat → Int32) → (Nat → Int32) → (Nat → Int32) → (Nat → Int32) → (Nat → Int32) → (Nat → Int32) → (Nat → Int32) → (Nat → Int32) → (Nat → Int32) → (Nat → Int32) → (Nat → Int32) → (Nat → Int32) → Prop} {m : Nat} (hN : N ≤ 4) (hS : S ≤ 3) (hm : m < 2 + N + S)
    (ok : J (nI (m + 1)) xst xln xok xoo xpz (dv_tb (dv_T1 N S) (19 + 16 * (m + 1))) (dv_tb (dv_T2 N S) (19 + 16 * (m + 1))) xne xsm xwb xwk xwo xcu xsp xsa xpv xch xpt xpl) :
    ∀ (k n c : Nat), c + k = 19 → 4 ≤ c → k < n →
    wX_buildTable_81 post J (nI N) (nI (2 + N + S)) (nI m) (nI (19 + 16 * m)) xq0 xq1 xq2 xq3 xq4 xq5 xq6 xtl xdl xnc xsc xts xni xwl xsf xsl xss xws xwn xpn xle xla xbk xbz xba xbg n (nI c) xst xln xok xoo xpz (dv_tb (dv_T1 N S) (19 + 16 * m + c - 3)) (dv_tb (dv_T2 N S) (19 + 16 * m + c - 3)) xne xsm xwb xwk xwo xcu xsp xsa xpv xch xpt xpl := by
  intro k
  induction k with
  | zero =>
    intro n c hc h4 hn
    obtain ⟨n, rfl⟩ : ∃ m, n = m + 1 := ⟨n - 1, by omega⟩
    obtain rfl : c = 19 := by omega
    have e : 19 + 16 * m + 19 - 3 = 19 + 16 * (m + 1) := by omega
    rw [e]
    exact br_t (nI_lt (a := 18) (b := 19) (by omega) (by omega)) (nm_r (nI_1 m) ok)
  | succ k ih =>
    intro n c hc h4 hn
    obtain ⟨n, rfl⟩ : ∃ m, n = m + 1 := ⟨n - 1, by omega⟩
    have nx := ih n (c + 1) (by omega) (by omega) (by omega)
    have e : 19 + 16 * m + (c + 1) - 3 = 19 + 16 * m + c - 3 + 1 := by omega
    have t1 : dv_T1 N S (19 + 16 * m + c - 3) = 3 + 4 * c + 128 * m := by unfold dv_T1; rw [dv_TC hm h4 (by omega)]
    have t2 : dv_T2 N S (19 + 16 * m + c - 3) = 0 := by unfold dv_T2; rw [dv_TC hm h4 (by omega)]
    rw [e, ← dv_tb_z t2] at nx
    have ei : nI (19 + 16 * m) + nI c - 3 = nI (19 + 16 * m + c - 3) := by
      rw [nI_add]
      exact pk_sub (b := 3) (by omega)
    refine br_f (nI_nlt (a := 18) (by omega) (by omega)) ?_
    rw [ei, nI_clamp (by omega), dv_q2]
    exact ⟨vp_in_nI (by omega) (by omega), nm_r (dv_tb_s t1) (nm_r (nI_1 c) nx)⟩
theorem dx_47 {post : SX → Prop} (hN : N ≤ 4) (hS : S ≤ 3) (ok : post (xq0, xq1, xq2, xq3, xq4, xq5, xq6, xtl, xdl, xnc, xsc, xts, xni, xwl, xsf, xsl, xss, xws, xwn, xpn, xle, xla, xbk, xbz, xba, xbg, xst, xln, xok, xoo, xpz, dv_tb (dv_T1 N S) (dv_sz N S), dv_tb (dv_T2 N S) (dv_sz N S), xne, xsm, xwb, xwk, xwo, xcu, xsp, xsa, xpv, xch, xpt, xpl)) :
    ∀ (k n m : Nat), m + k = 2 + N + S → k < n →
    wX_buildTable_47 post (nI N) (nI (2 + N + S)) xq0 xq1 xq2 xq3 xq4 xq5 xq6 xtl xdl xnc xsc xts xni xwl xsf xsl xss xws xwn xpn xle xla xbk xbz xba xbg n (nI m) xst xln xok xoo xpz (dv_tb (dv_T1 N S) (19 + 16 * m)) (dv_tb (dv_T2 N S) (19 + 16 * m)) xne xsm xwb xwk xwo xcu xsp xsa xpv xch xpt xpl := by
  intro k
  induction k with
  | zero =>
    intro n m hm hn
    obtain ⟨n, rfl⟩ : ∃ m, n = m + 1 := ⟨n - 1, by omega⟩
    obtain rfl : m = 2 + N + S := by omega
    exact br_t (nI_le (by omega) (by omega)) (dx_bp hN hS ok)
  | succ k ih =>
    intro n m hm hn
    obtain ⟨n, rfl⟩ : ∃ m, n = m + 1 := ⟨n - 1, by omega⟩
    have t1 : dv_T1 N S (19 + 16 * m) = 3 + 128 * m := by unfold dv_T1; rw [dv_TC0 (by omega)]
    have t2 : dv_T2 N S (19 + 16 * m) = 0 := by unfold dv_T2; rw [dv_TC0 (by omega)]
    refine br_f (nI_ge (by omega) (by omega)) (nm_r (dv_q5 m) ?_)
    rw [nI_clamp (by omega), dv_q4]
    refine ⟨vp_in_nI (by omega) (by omega), nm_r (dv_tb_s t1) ⟨16, ?_⟩⟩
    rw [dv_tb_z t2, show 19 + 16 * m + 1 = 19 + 16 * m + 4 - 3 by omega]
    exact dx_81 hN hS (by omega) (ih n (m + 1) (by omega) (by omega)) 15 16 4 (by omega) (by omega) (by omega)
theorem dx_16 {post : SX → Prop} (hN : N ≤ 4) (hS : S ≤ 3) (ok : post (xq0, xq1, xq2, xq3, xq4, xq5, xq6, xtl, xdl, xnc, xsc, xts, xni, xwl, xsf, xsl, xss, xws, xwn, xpn, xle, xla, xbk, xbz, xba, xbg, xst, xln, xok, xoo, xpz, dv_tb (dv_T1 N S) (dv_sz N S), dv_tb (dv_T2 N S) (dv_sz N S), xne, xsm, xwb, xwk, xwo, xcu, xsp, xsa, xpv, xch, xpt, xpl)) :
    ∀ (k n a : Nat), a + k = 18 → k < n →
    wX_buildTable_16 post (nI N) (nI (2 + N + S)) xq0 xq1 xq2 xq3 xq4 xq5 xq6 xtl xdl xnc xsc xts xni xwl xsf xsl xss xws xwn xpn xle xla xbk xbz xba xbg n (nI a) xst xln xok xoo xpz (dv_tb (dv_T1 N S) (1 + a)) (dv_tb (dv_T2 N S) (1 + a)) xne xsm xwb xwk xwo xcu xsp xsa xpv xch xpt xpl := by
  intro k
  induction k with
  | zero =>
    intro n a ha hn
    obtain ⟨n, rfl⟩ : ∃ m, n = m + 1 := ⟨n - 1, by omega⟩
    obtain rfl : a = 18 := by omega
    exact br_t (nI_lt (a := 17) (b := 18) (by omega) (by omega)) ⟨_, dx_47 hN hS ok (2 + N + S) (2 + N + S + 1) 0 (by omega) (by omega)⟩
  | succ k ih =>
    intro n a ha hn
    obtain ⟨n, rfl⟩ : ∃ m, n = m + 1 := ⟨n - 1, by omega⟩
    have nx := ih n (a + 1) (by omega) (by omega)
    have t1 : dv_T1 N S (1 + a) = 1 + 4 * a := by unfold dv_T1; rw [dv_TA (by omega)]
    have t2 : dv_T2 N S (1 + a) = 0 := by unfold dv_T2; rw [dv_TA (by omega)]
    rw [show 1 + (a + 1) = 1 + a + 1 by omega, ← dv_tb_z t2] at nx
    refine br_f (nI_nlt (a := 17) (by omega) (by omega)) ?_
    rw [show (1 : Int32) + nI a = nI (1 + a) from nI_add 1 a, nI_clamp (by omega), dv_q1]
    exact ⟨vp_in_nI (by omega) (by omega), nm_r (dv_tb_s t1) (nm_r (nI_1 a) nx)⟩
theorem dx_bt {post : SX → Prop} (hN : N ≤ 4) (hS : S ≤ 3) (ok : post (xq0, xq1, xq2, xq3, xq4, xq5, xq6, xtl, xdl, xnc, xsc, xts, xni, xwl, xsf, xsl, xss, xws, xwn, xpn, xle, xla, xbk, xbz, xba, xbg, xst, xln, xok, xoo, xpz, dv_tb (dv_T1 N S) (dv_sz N S), dv_tb (dv_T2 N S) (dv_sz N S), xne, xsm, xwb, xwk, xwo, xcu, xsp, xsa, xpv, xch, xpt, xpl)) :
    wpX_buildTable post (xq0, xq1, xq2, xq3, xq4, xq5, xq6, xtl, xdl, xnc, xsc, xts, xni, xwl, xsf, xsl, xss, xws, xwn, xpn, xle, xla, xbk, xbz, xba, xbg, xst, xln, xok, xoo, xpz, fun _ => 0, fun _ => 0, xne, xsm, xwb, xwk, xwo, xcu, xsp, xsa, xpv, xch, xpt, xpl) (nI N) (nI S) := by
  unfold wpX_buildTable
  have z1 : upd (fun _ => 0) 0 2 = dv_tb (dv_T1 N S) (1 + 0) := by
    rw [dv_tb_0 (f := dv_T1 N S)]
    exact dv_tb_s (v := 2) rfl
  have z2 : (fun _ => 0 : Nat → Int32) = dv_tb (dv_T2 N S) (1 + 0) := by
    rw [dv_tb_0 (f := dv_T2 N S)]
    exact dv_tb_z rfl
  have fin := dx_16 (post := post) hN hS ok 18 19 0 (by omega) (by omega)
  rw [← z2] at fin
  exact nm_r (e' := nI (2 + N + S)) (by rw [show (2 : Int32) = nI 2 from rfl, nI_add, nI_add]) (nm_r z1 ⟨19, fin⟩)
end
def dv_cv (p : Int32) (lo hi n : Nat) : Prop := (nI lo ≤ p ∧ p ≤ nI hi ∧ p = nI n) ∨ (nI lo ≤ p ∧ ¬ p ≤ nI hi ∧ n = hi) ∨ (¬ nI lo ≤ p ∧ n = lo)
theorem dv_cve (p : Int32) {lo hi : Nat} (h : lo ≤ hi) (hh : hi < 1000) : ∃ n, lo ≤ n ∧ n ≤ hi ∧ dv_cv p lo hi n := by
  by_cases a : nI lo ≤ p
  · by_cases b : p ≤ nI hi
    · have : ¬ p < 0 := fun q => absurd (Int32.lt_of_le_of_lt a q) (nI_pos (by omega))
      obtain ⟨n, hn, rfl⟩ := nI_of this
      rw [nI_leI (by omega) hn] at a
      rw [nI_leI hn (by omega)] at b
      exact ⟨n, a, b, Or.inl ⟨nI_le a hn, nI_le b (by omega), rfl⟩⟩
    · exact ⟨hi, h, Nat.le_refl _, Or.inr (Or.inl ⟨a, b, rfl⟩)⟩
  · exact ⟨lo, Nat.le_refl _, h, Or.inr (Or.inr ⟨a, rfl⟩)⟩
section
variable {xq0 xq1 xq2 xq3 xq4 xq5 xq6 xtl xdl xnc xsc xts xni xwl xsf xsl xss xws xwn xpn xle xla xbk xbz xba xbg : Int32} {xst xln xok xoo xpz xfh xsh xne xsm xwb xwk xwo xcu xsp xsa xpv xch xpt xpl : Nat → Int32}
variable {ytl ydl ync ysc yrl yin ysl yss yws ywn ylc : Int32} {ytx yln ykd yor ypa ypz yrb yrk yro ycu yen ylr : Nat → Int32}
theorem dx_cl {post : Int32 → Prop} {p : Int32} {lo hi n : Nat} (h : dv_cv p lo hi n) (hp : post (nI n)) : wpX_clamp post (xq0, xq1, xq2, xq3, xq4, xq5, xq6, xtl, xdl, xnc, xsc, xts, xni, xwl, xsf, xsl, xss, xws, xwn, xpn, xle, xla, xbk, xbz, xba, xbg, xst, xln, xok, xoo, xpz, xfh, xsh, xne, xsm, xwb, xwk, xwo, xcu, xsp, xsa, xpv, xch, xpt, xpl) p (nI lo) (nI hi) := by
  rcases h with ⟨a, b, rfl⟩ | ⟨a, b, rfl⟩ | ⟨a, rfl⟩
  · exact br_t a (br_t b hp)
  · exact br_t a (br_f b hp)
  · exact br_f a hp
theorem dy_cl {post : Int32 → Prop} {p : Int32} {lo hi n : Nat} (h : dv_cv p lo hi n) (hp : post (nI n)) : wpY_clamp post (ytl, ydl, ync, ysc, yrl, yin, ysl, yss, yws, ywn, ylc, ytx, yln, ykd, yor, ypa, ypz, yrb, yrk, yro, ycu, yen, ylr) p (nI lo) (nI hi) := by
  rcases h with ⟨a, b, rfl⟩ | ⟨a, b, rfl⟩ | ⟨a, rfl⟩
  · exact br_t a (br_t b hp)
  · exact br_t a (br_f b hp)
  · exact br_f a hp
end
theorem i_vc0 (k0 : Int32) (k1 : Int32) (k2 : Int32) (k3 : Int32) : wpX_init (fun u => wpY_init (fun v => i_Rel 4 u v) k0 k1 k2 k3) k0 k1 k2 k3 := by
  obtain ⟨tl, a1, a2, a3⟩ := dv_cve k0 (lo := 8) (hi := 128) (by omega) (by omega)
  obtain ⟨dl, b1, b2, b3⟩ := dv_cve k1 (lo := 16) (hi := 256) (by omega) (by omega)
  obtain ⟨N, c1, c2, c3⟩ := dv_cve k2 (lo := 0) (hi := 4) (by omega) (by omega)
  obtain ⟨S, d1, d2, d3⟩ := dv_cve k3 (lo := 0) (hi := 3) (by omega) (by omega)
  unfold wpX_init
  refine dx_cl a3 (dx_cl b3 (dx_cl c3 (dx_cl d3 (nm_r (pk_mul 16 S) (nm_r (dv_szI N S) (dx_bt c2 d2 (dx_free fun pz ln hpz hln => ?_)))))))
  unfold wpY_init
  refine dy_cl a3 (dy_cl b3 (dy_cl c3 (dy_cl d3 (dy_free fun yz hyz => ?_))))
  refine dv_in (tl := tl) (dl := dl) (N := N) (S := S) (tx := fun _ => []) ⟨⟨a1, a2, b1, b2, c2, d2⟩, fun r hr => Nat.zero_le _, fun r hr => ⟨hln r hr, dv_Seg_nil⟩, fun r hr => ⟨rfl, dv_Seg_nil⟩, fun o ho => ⟨if_pos ho, if_pos ho⟩, fun j hj => absurd hj (Nat.not_lt_zero j), fun s hs => Or.inl ⟨hpz s hs, hyz s hs⟩⟩
end
section
/-! the encoder's stream against the pure decoder -/
def dv_en (v : Nat) : List Nat := if v < 128 then [v] else [128 + v / 128, v % 128]
theorem dv_en_num {v : Nat} {R : List Nat} (h : v < 16384) : dv_num (dv_en v ++ R) = some (v, R) := by
  unfold dv_num dv_en
  by_cases z : v < 128
  · rw [if_pos z]
    show (if v < 128 then some (0 * 128 + v % 128, R) else _) = _
    rw [if_pos z, show 0 * 128 + v % 128 = v by omega]
  · rw [if_neg z]
    show (if 128 + v / 128 < 128 then _ else (if v % 128 < 128 then some ((0 * 128 + (128 + v / 128) % 128) * 128 + v % 128 % 128, R) else _)) = _
    rw [if_neg (by omega), if_pos (by omega), show (0 * 128 + (128 + v / 128) % 128) * 128 + v % 128 % 128 = v by omega]
theorem dv_en_len {v : Nat} : (dv_en v).length = (if v < 128 then 1 else 2) := by
  unfold dv_en
  by_cases z : v < 128
  · rw [if_pos z, if_pos z]; rfl
  · rw [if_neg z, if_neg z]; rfl
def dv_sf (Q : List Nat) : Nat := if Q.length = 0 then 0 else 1
def dv_Gd (T : List Nat) (w : Nat) (g : dv_GT) : Prop := ∀ j, j < w → (g j).1 = dv_gl T j
section
variable {N S : Nat} {Q T : List Nat}
def dv_BO (N S : Nat) (Q T : List Nat) (kind mode n : Nat) (dl al : List Nat) (w : Nat) (K : dv_KT) (w' : Nat) (K' : dv_KT) : Prop :=
  ∀ (M D' C' A' : List Nat) (g : dv_GT), dv_Gd T w g → ∃ g', dv_Gd T w' g' ∧ dv_bdy N S (Q ++ M) (dv_sf Q) Q.length 0 0 T.length kind mode n (dl ++ D', C', al ++ A', w, g, K) = .ok (D', C', A', w', g', K')
def dv_HO (N S : Nat) (Q T : List Nat) (e : Nat) (cl dl al : List Nat) (w : Nat) (K : dv_KT) (w' : Nat) (K' : dv_KT) : Prop :=
  ∀ (M D' C' A' : List Nat) (g : dv_GT), dv_Gd T w g → ∃ g', dv_Gd T w' g' ∧ dv_hlf N S (Q ++ M) (dv_sf Q) Q.length 0 0 T.length e (dl ++ D', cl ++ C', al ++ A', w, g, K) = .ok (D', C', A', w', g', K')
def dv_EO (N S : Nat) (Q T : List Nat) (m : Nat) (D C A : List Nat) (w : Nat) (K : dv_KT) : Prop :=
  m ≤ C.length ∧ ∀ M D' C' A' : List Nat, ∃ g, dv_Gd T w g ∧ ∀ k, dv_trs N S (Q ++ M) (dv_sf Q) Q.length 0 0 T.length (m + k) (D ++ D', C ++ C', A ++ A', 0, dv_g0, dv_K0) = dv_trs N S (Q ++ M) (dv_sf Q) Q.length 0 0 T.length k (D', C', A', w, g, K)
theorem dv_HO_d {kind mode n : Nat} {dl al : List Nat} {w w' : Nat} {K K' : dv_KT} (h : dv_BO N S Q T kind mode n dl al w K w' K') (hk : kind < 4) (h1 : 1 ≤ n) (hn : n < 32) : dv_HO N S Q T (kind + 4 * n + 128 * mode) [] dl al w K w' K' := by
  intro M D' C' A' g hg
  obtain ⟨g', h2, h3⟩ := h M D' C' A' g hg
  refine ⟨g', h2, ?_⟩
  have e1 : (kind + 4 * n + 128 * mode) / 4 % 32 = n := by omega
  have e2 : (kind + 4 * n + 128 * mode) % 4 = kind := by omega
  have e3 : (kind + 4 * n + 128 * mode) / 128 = mode := by omega
  simp only [dv_hlf, e1, e2, e3, List.nil_append]
  rw [if_neg (by omega)]
  exact h3
theorem dv_HO_x {kind mode n : Nat} {dl al : List Nat} {w w' : Nat} {K K' : dv_KT} (h : dv_BO N S Q T kind mode n dl al w K w' K') (hk : kind < 4) (hn : n < 16384) : dv_HO N S Q T (kind + 128 * mode) (dv_en n) dl al w K w' K' := by
  intro M D' C' A' g hg
  obtain ⟨g', h2, h3⟩ := h M D' C' A' g hg
  refine ⟨g', h2, ?_⟩
  have e1 : (kind + 128 * mode) / 4 % 32 = 0 := by omega
  have e2 : (kind + 128 * mode) % 4 = kind := by omega
  have e3 : (kind + 128 * mode) / 128 = mode := by omega
  simp only [dv_hlf, e1, e2, e3, dv_en_num hn, if_true]
  exact h3
theorem dv_EO_1 {m op e : Nat} {D C A cl dl al : List Nat} {w w' : Nat} {K K' : dv_KT} (h : dv_EO N S Q T m D C A w K) (h2 : dv_HO N S Q T e cl dl al w K w' K') (ho : op < dv_sz N S) (t1 : dv_T1 N S op = e) (t2 : dv_T2 N S op = 0) :
    dv_EO N S Q T (m + 1) (D ++ dl) (C ++ (op :: cl)) (A ++ al) w' K' := by
  refine ⟨by have := h.1; rw [List.length_append, List.length_cons]; omega, fun M D' C' A' => ?_⟩
  obtain ⟨g, g1, g2⟩ := h.2 M (dl ++ D') (op :: (cl ++ C')) (al ++ A')
  obtain ⟨g', g3, g4⟩ := h2 M D' C' A' g g1
  refine ⟨g', g3, fun k => ?_⟩
  have := g2 (k + 1)
  rw [List.append_assoc, List.append_assoc, List.append_assoc, List.cons_append, show m + 1 + k = m + (k + 1) by omega, this]
  have e3 : dv_trn N S (Q ++ M) (dv_sf Q) Q.length 0 0 T.length op (dl ++ D', cl ++ C', al ++ A', w, g, K) = .ok (D', C', A', w', g', K') := by
    simp only [dv_trn, ho, if_true, t1, g4, t2]
  simp only [dv_trs, e3]
theorem dv_EO_2 {m op e1 e2 : Nat} {D C A dl1 al1 dl2 al2 : List Nat} {w w1 w2 : Nat} {K K1 K2 : dv_KT} (h : dv_EO N S Q T m D C A w K) (h1 : dv_HO N S Q T e1 [] dl1 al1 w K w1 K1) (h2 : dv_HO N S Q T e2 [] dl2 al2 w1 K1 w2 K2)
    (ho : op < dv_sz N S) (t1 : dv_T1 N S op = e1) (t2 : dv_T2 N S op = e2) (hz : e2 ≠ 0) :
    dv_EO N S Q T (m + 1) (D ++ dl1 ++ dl2) (C ++ [op]) (A ++ al1 ++ al2) w2 K2 := by
  refine ⟨by have := h.1; rw [List.length_append, List.length_cons]; omega, fun M D' C' A' => ?_⟩
  obtain ⟨g, g1, g2⟩ := h.2 M (dl1 ++ (dl2 ++ D')) (op :: C') (al1 ++ (al2 ++ A'))
  obtain ⟨g', g3, g4⟩ := h1 M (dl2 ++ D') C' (al2 ++ A') g g1
  obtain ⟨g'', g5, g6⟩ := h2 M D' C' A' g' g3
  refine ⟨g'', g5, fun k => ?_⟩
  have := g2 (k + 1)
  rw [List.append_assoc, List.append_assoc, List.append_assoc, List.append_assoc, List.append_assoc, List.cons_append, List.nil_append, show m + 1 + k = m + (k + 1) by omega, this]
  rw [List.nil_append] at g4 g6
  have e3 : dv_trn N S (Q ++ M) (dv_sf Q) Q.length 0 0 T.length op (dl1 ++ (dl2 ++ D'), C', al1 ++ (al2 ++ A'), w, g, K) = .ok (D', C', A', w2, g'', K2) := by
    simp only [dv_trn, ho, if_true, t1, g4, t2, hz, if_false, g6]
  simp only [dv_trs, e3]
theorem dv_EO_0 : dv_EO N S Q T 0 [] [] [] 0 dv_K0 := by
  refine ⟨Nat.le_refl _, fun M D' C' A' => ⟨dv_g0, fun j hj => absurd hj (Nat.not_lt_zero j), fun k => ?_⟩⟩
  rw [Nat.zero_add]
  rfl
/-! the three bodies -/
theorem dv_add_at : ∀ (L : List Nat) (w : Nat) (g : dv_GT) (j : Nat), (dv_add L w g j).1 = if w ≤ j ∧ j < w + L.length then dv_gl L (j - w) else (g j).1
  | [], w, g, j => by
    rw [if_neg (by simp only [List.length_nil]; omega)]
    rfl
  | b :: L, w, g, j => by
    show (dv_add L (w + 1) (dv_put g w b 1 (-1)) j).1 = _
    rw [dv_add_at L (w + 1)]
    unfold dv_put
    by_cases z : j = w
    · subst z
      rw [if_neg (by omega), if_pos rfl, if_pos (by simp only [List.length_cons]; omega), Nat.sub_self]
      rfl
    · rw [if_neg z]
      by_cases y : w + 1 ≤ j ∧ j < w + 1 + L.length
      · rw [if_pos y, if_pos (by simp only [List.length_cons]; omega), show j - w = j - (w + 1) + 1 by omega]
        rfl
      · rw [if_neg y, if_neg (by simp only [List.length_cons]; omega)]
theorem dv_run_at (b : Nat) : ∀ (n w : Nat) (g : dv_GT) (j : Nat), (dv_run b n w g j).1 = if w ≤ j ∧ j < w + n then b else (g j).1
  | 0, w, g, j => by
    rw [if_neg (by omega)]
    rfl
  | n + 1, w, g, j => by
    show (dv_run b n (w + 1) (dv_put g w b 2 (-1)) j).1 = _
    rw [dv_run_at b n (w + 1)]
    unfold dv_put
    by_cases z : j = w
    · subst z
      rw [if_neg (by omega), if_pos rfl, if_pos (by omega)]
    · rw [if_neg z]
      by_cases y : w + 1 ≤ j ∧ j < w + 1 + n
      · rw [if_pos y, if_pos (by omega)]
      · rw [if_neg y, if_neg (by omega)]
theorem dv_BO_add {n : Nat} {dl : List Nat} {w : Nat} {K : dv_KT} (hn : dl.length = n) (hw : w + n ≤ T.length) (hd : ∀ i, i < n → dv_gl dl i = dv_gl T (w + i)) : dv_BO N S Q T 1 0 n dl [] w K (w + n) K := by
  intro M D' C' A' g hg
  refine ⟨dv_add dl w g, fun j hj => ?_, ?_⟩
  · rw [dv_add_at, hn]
    by_cases z : w ≤ j ∧ j < w + n
    · rw [if_pos z, hd _ (by omega), show w + (j - w) = j by omega]
    · rw [if_neg z]; exact hg j (by omega)
  · have h1 : ¬ T.length < w - 0 + n := by omega
    have h2 : ¬ (dl ++ D').length < n := by rw [List.length_append]; omega
    have h3 : (dl ++ D').drop n = D' := by rw [← hn, List.drop_left]
    have h4 : (dl ++ D').take n = dl := by rw [← hn, List.take_left]
    simp only [dv_bdy, h1, if_false, if_true, h2, h3, h4, List.nil_append]
theorem dv_BO_run {n b : Nat} {w : Nat} {K : dv_KT} (hw : w + n ≤ T.length) (hd : ∀ i, i < n → dv_gl T (w + i) = b) : dv_BO N S Q T 2 0 n [b] [] w K (w + n) K := by
  intro M D' C' A' g hg
  refine ⟨dv_run b n w g, fun j hj => ?_, ?_⟩
  · rw [dv_run_at]
    by_cases z : w ≤ j ∧ j < w + n
    · have := hd (j - w) (by omega)
      rw [show w + (j - w) = j by omega] at this
      rw [if_pos z, this]
    · rw [if_neg z]; exact hg j (by omega)
  · have h1 : ¬ T.length < w - 0 + n := by omega
    simp only [dv_bdy, h1, if_false, if_true, List.nil_append, List.cons_append, show ¬ (2 = 1) by omega]
theorem dv_cpy_gd {M : List Nat} : ∀ (n a w : Nat) (g : dv_GT), dv_Gd T w g → w + n ≤ T.length → a < Q.length + w → (∀ i, i < n → dv_gl (Q ++ T) (a + i) = dv_gl T (w + i)) → dv_Gd T (w + n) (dv_cpy (Q ++ M) (dv_sf Q) Q.length 0 0 n a w g)
  | 0, a, w, g, hg, _, _, _ => hg
  | n + 1, a, w, g, hg, hw, ha, hd => by
    have e0 := hd 0 (by omega)
    rw [Nat.add_zero, Nat.add_zero] at e0
    have es : (dv_src (Q ++ M) (dv_sf Q) Q.length 0 0 g a).1 = dv_gl T w := by
      unfold dv_src
      by_cases z : a < Q.length
      · have : dv_sf Q = 1 := by unfold dv_sf; rw [if_neg (by omega)]
        rw [if_pos z, if_pos this]
        show dv_gl (Q ++ M) (0 + a) = _
        rw [Nat.zero_add, dv_gl_l z, ← e0, dv_gl_l z]
      · rw [if_neg z]
        show (g (0 + a - Q.length)).1 = _
        rw [Nat.zero_add, hg _ (by omega), ← e0]
        have := dv_gl_r (t := T) Q (a - Q.length)
        rw [show Q.length + (a - Q.length) = a by omega] at this
        exact this.symm
    have step : dv_Gd T (w + 1) (dv_put g w (dv_src (Q ++ M) (dv_sf Q) Q.length 0 0 g a).1 3 (dv_src (Q ++ M) (dv_sf Q) Q.length 0 0 g a).2) := by
      intro j hj
      unfold dv_put
      by_cases z : j = w
      · rw [if_pos z, z]; exact es
      · rw [if_neg z]; exact hg j (by omega)
    have := dv_cpy_gd (M := M) n (a + 1) (w + 1) _ step (by omega) (by omega) (fun i hi => by
      have := hd (i + 1) (by omega)
      rw [show a + 1 + i = a + (i + 1) by omega, show w + 1 + i = w + (i + 1) by omega]
      exact this)
    rw [show w + (n + 1) = w + 1 + n by omega]
    exact this
theorem dv_BO_cpy {n mode a : Nat} {al : List Nat} {w : Nat} {K : dv_KT} (hw : w + n ≤ T.length) (ha : a < Q.length + w) (hd : ∀ i, i < n → dv_gl (Q ++ T) (a + i) = dv_gl T (w + i))
    (hA : ∀ A', dv_adr N K mode (Q.length + w) (al ++ A') = .ok (a, A')) : dv_BO N S Q T 3 mode n [] al w K (w + n) (dv_lrn N S a K) := by
  intro M D' C' A' g hg
  refine ⟨dv_cpy (Q ++ M) (dv_sf Q) Q.length 0 0 n a w g, dv_cpy_gd n a w g hg hw ha hd, ?_⟩
  have h1 : ¬ T.length < w + n := by omega
  simp only [dv_bdy, h1, if_false, List.nil_append, show ¬ (3 = 1) by omega, show ¬ (3 = 2) by omega, Nat.sub_zero, hA A', dv_cpl]
/-! addresses -/
def dv_MD (N S : Nat) (K : dv_KT) (a mode : Nat) : Prop :=
  mode = 0 ∨ mode = 1 ∨ (2 ≤ mode ∧ mode < N + 2 ∧ K.1 (mode - 2) ≤ a) ∨ (0 < S ∧ mode = N + 2 + a % (16 * S) / 16 ∧ K.2.1 (a % (16 * S)) = a)
def dv_cd (N S : Nat) (K : dv_KT) (a here mode : Nat) : Nat := if mode = 0 then a else if mode = 1 then here - a else if mode < N + 2 then a - K.1 (mode - 2) else a % (16 * S) % 16
theorem dv_cd_lt {K : dv_KT} {a here mode : Nat} (ha : a < here) (hh : here ≤ 256) : dv_cd N S K a here mode ≤ 256 := by
  unfold dv_cd
  split
  · omega
  · split
    · omega
    · split <;> omega
theorem dv_MD_lt {K : dv_KT} {a mode : Nat} (h : dv_MD N S K a mode) : mode < 2 + N + S := by
  rcases h with h | h | h | ⟨h1, h2, h3⟩
  · omega
  · omega
  · omega
  · have : a % (16 * S) < 16 * S := Nat.mod_lt _ (by omega)
    omega
theorem dv_cd_ok {K : dv_KT} {a here mode : Nat} {A : List Nat} (h : dv_MD N S K a mode) (ha : a < here) (hh : here ≤ 256) : dv_adr N K mode here (dv_en (dv_cd N S K a here mode) ++ A) = .ok (a, A) := by
  have hn := dv_en_num (R := A) (Nat.lt_of_le_of_lt (dv_cd_lt (N := N) (S := S) (K := K) (mode := mode) ha hh) (by omega))
  rcases h with h | h | ⟨h1, h2, h3⟩ | ⟨h1, h2, h3⟩
  · subst h
    unfold dv_adr
    rw [if_pos (by omega), hn]
    simp only [if_true, dv_chk, dv_cd, ha]
  · subst h
    unfold dv_adr
    rw [if_pos (by omega), hn]
    have e : dv_cd N S K a here 1 = here - a := by unfold dv_cd; rw [if_neg (by omega), if_pos rfl]
    simp only [e, if_false, if_true, Nat.one_ne_zero, dv_chk, show here - a ≤ here by omega, show here - (here - a) = a by omega, ha]
  · unfold dv_adr
    rw [if_pos h2, hn]
    have e : dv_cd N S K a here mode = a - K.1 (mode - 2) := by unfold dv_cd; rw [if_neg (by omega), if_neg (by omega), if_pos h2]
    simp only [e, show ¬ mode = 0 by omega, show ¬ mode = 1 by omega, if_false, dv_chk, show K.1 (mode - 2) + (a - K.1 (mode - 2)) = a by omega, ha, if_true]
  · have e : dv_cd N S K a here mode = a % (16 * S) % 16 := by unfold dv_cd; rw [if_neg (by omega), if_neg (by omega), if_neg (by omega)]
    have e2 : dv_en (a % (16 * S) % 16) = [a % (16 * S) % 16] := by unfold dv_en; rw [if_pos (by omega)]
    have e3 : 16 * (mode - N - 2) + a % (16 * S) % 16 = a % (16 * S) := by omega
    unfold dv_adr
    rw [if_neg (by omega), e, e2, List.cons_append, List.nil_append]
    simp only [show a % (16 * S) % 16 < 16 by omega, if_true, e3, h3, dv_chk, ha]
/-! one emitted instruction -/
def dv_EM (N S kind n mode : Nat) (pp : Nat → List Nat) (le la : Nat) (pp' : Nat → List Nat) (le' la' : Nat) : Prop :=
  (∃ op x C0, n < 32 ∧ le ≠ 0 ∧ pp 2 = C0 ++ [x] ∧ la = C0.length ∧ op < dv_sz N S ∧ dv_T1 N S op = le ∧ dv_T2 N S op = kind + 4 * n + 128 * mode ∧ pp' = dv_up pp 2 (C0 ++ [op]) ∧ le' = 0) ∨
  (∃ op, n < 32 ∧ op < dv_sz N S ∧ dv_T1 N S op = kind + 4 * n + 128 * mode ∧ dv_T2 N S op = 0 ∧ pp' = dv_ap pp 2 [op] ∧ le' = kind + 4 * n + 128 * mode ∧ la' = (pp 2).length) ∨
  (∃ op, op < dv_sz N S ∧ dv_T1 N S op = kind + 128 * mode ∧ dv_T2 N S op = 0 ∧ pp' = dv_ap pp 2 (op :: dv_en n) ∧ le' = 0 ∧ 1 + (dv_en n).length ≤ n)
def dv_LS (N S : Nat) (Q T : List Nat) (pp : Nat → List Nat) (w : Nat) (K : dv_KT) (le la : Nat) : Prop :=
  le = 0 ∨ ∃ m D0 C0 A0 x dl al w0 K0, pp 2 = C0 ++ [x] ∧ la = C0.length ∧ pp 1 = D0 ++ dl ∧ pp 3 = A0 ++ al ∧ dv_EO N S Q T m D0 C0 A0 w0 K0 ∧ dv_HO N S Q T le [] dl al w0 K0 w K
def dv_EI (N S : Nat) (Q T : List Nat) (pp : Nat → List Nat) (w : Nat) (K : dv_KT) (le la : Nat) : Prop :=
  pp 0 = [] ∧ ((pp 1).length ≤ w ∧ (pp 2).length ≤ w ∧ (pp 3).length ≤ w) ∧ (∃ m, dv_EO N S Q T m (pp 1) (pp 2) (pp 3) w K) ∧ dv_LS N S Q T pp w K le la
theorem dv_EI_s {kind n mode : Nat} {pp pp' : Nat → List Nat} {w : Nat} {K K' : dv_KT} {le la le' la' : Nat} {dl al : List Nat} (h : dv_EI N S Q T pp w K le la) (hB : dv_BO N S Q T kind mode n dl al w K (w + n) K') (hE : dv_EM N S kind n mode pp le la pp' le' la')
    (hk : kind < 4) (hk0 : 0 < kind) (h1 : 1 ≤ n) (hn : n < 16384) (hd : dl.length ≤ n) (ha : al.length ≤ n) : dv_EI N S Q T (dv_ap (dv_ap pp' 1 dl) 3 al) (w + n) K' le' la' := by
  obtain ⟨p0, ⟨l1, l2, l3⟩, ⟨m, E⟩, Ls⟩ := h
  rcases hE with ⟨op, x, C0, e1, e2, e3, e4, e5, e6, e7, e8, e9⟩ | ⟨op, e1, e5, e6, e7, e8, e9, e10⟩ | ⟨op, e5, e6, e7, e8, e9, e10⟩
  · have q0 : dv_ap (dv_ap pp' 1 dl) 3 al 0 = [] := by rw [dv_ap_n (by omega), dv_ap_n (by omega), e8, dv_up_n (by omega), p0]
    have q1 : dv_ap (dv_ap pp' 1 dl) 3 al 1 = pp 1 ++ dl := by rw [dv_ap_n (by omega), dv_ap_s, e8, dv_up_n (by omega)]
    have q2 : dv_ap (dv_ap pp' 1 dl) 3 al 2 = C0 ++ [op] := by rw [dv_ap_n (by omega), dv_ap_n (by omega), e8, dv_up_s]
    have q3 : dv_ap (dv_ap pp' 1 dl) 3 al 3 = pp 3 ++ al := by rw [dv_ap_s, dv_ap_n (by omega), e8, dv_up_n (by omega)]
    rcases Ls with z | ⟨m0, D0, C1, A0, x1, dl0, al0, w0, K0, f1, f2, f3, f4, f5, f6⟩
    · exact absurd z e2
    · have ec : C1 = C0 := by
        have := f1.symm.trans e3
        exact (List.append_inj' this rfl).1
      subst ec
      have hh := dv_EO_2 f5 f6 (dv_HO_d hB hk h1 e1) e5 e6 e7 (by omega)
      rw [← f3, ← f4] at hh
      refine ⟨q0, ?_, ⟨m0 + 1, ?_⟩, Or.inl e9⟩
      · rw [q1, q2, q3]
        rw [e3] at l2
        simp only [List.length_append, List.length_singleton] at l2 ⊢
        omega
      · rw [q1, q2, q3]
        exact hh
  · have q0 : dv_ap (dv_ap pp' 1 dl) 3 al 0 = [] := by rw [dv_ap_n (by omega), dv_ap_n (by omega), e8, dv_ap_n (by omega), p0]
    have q1 : dv_ap (dv_ap pp' 1 dl) 3 al 1 = pp 1 ++ dl := by rw [dv_ap_n (by omega), dv_ap_s, e8, dv_ap_n (by omega)]
    have q2 : dv_ap (dv_ap pp' 1 dl) 3 al 2 = pp 2 ++ [op] := by rw [dv_ap_n (by omega), dv_ap_n (by omega), e8, dv_ap_s]
    have q3 : dv_ap (dv_ap pp' 1 dl) 3 al 3 = pp 3 ++ al := by rw [dv_ap_s, dv_ap_n (by omega), e8, dv_ap_n (by omega)]
    have ho := dv_HO_d hB hk h1 e1
    refine ⟨q0, ?_, ⟨m + 1, ?_⟩, Or.inr ⟨m, pp 1, pp 2, pp 3, op, dl, al, w, K, q2, e10, q1, q3, E, ?_⟩⟩
    · rw [q1, q2, q3]
      simp only [List.length_append, List.length_singleton]
      omega
    · rw [q1, q2, q3]
      exact dv_EO_1 E ho e5 e6 e7
    · rw [e9]; exact ho
  · have q0 : dv_ap (dv_ap pp' 1 dl) 3 al 0 = [] := by rw [dv_ap_n (by omega), dv_ap_n (by omega), e8, dv_ap_n (by omega), p0]
    have q1 : dv_ap (dv_ap pp' 1 dl) 3 al 1 = pp 1 ++ dl := by rw [dv_ap_n (by omega), dv_ap_s, e8, dv_ap_n (by omega)]
    have q2 : dv_ap (dv_ap pp' 1 dl) 3 al 2 = pp 2 ++ (op :: dv_en n) := by rw [dv_ap_n (by omega), dv_ap_n (by omega), e8, dv_ap_s]
    have q3 : dv_ap (dv_ap pp' 1 dl) 3 al 3 = pp 3 ++ al := by rw [dv_ap_s, dv_ap_n (by omega), e8, dv_ap_n (by omega)]
    have ho := dv_HO_x hB hk hn
    refine ⟨q0, ?_, ⟨m + 1, ?_⟩, Or.inl e9⟩
    · rw [q1, q2, q3]
      simp only [List.length_append, List.length_cons]
      omega
    · rw [q1, q2, q3]
      exact dv_EO_1 E ho e5 e6 e7
/-! the window -/
def dv_hd (Q T D C A : List Nat) : List Nat :=
  (if Q.length = 0 then [0] else 1 :: (dv_en Q.length ++ dv_en 0)) ++ (dv_en (1 + (dv_en T.length).length + ((dv_en D.length).length + D.length) + ((dv_en C.length).length + C.length) + ((dv_en A.length).length + A.length)) ++ (dv_en T.length ++ (0 :: (dv_en D.length ++ (dv_en C.length ++ dv_en A.length)))))
theorem dv_hd_ok {tl : Nat} {D C A : List Nat} {m : Nat} {K : dv_KT} (hQ : Q.length ≤ 128) (hT : T.length ≤ tl) (ht : tl ≤ 128) (hD : D.length ≤ 128) (hC : C.length ≤ 128) (hA : A.length ≤ 128)
    (h : dv_EO N S Q T m D C A T.length K) : dv_DK N S tl Q (dv_hd Q T D C A ++ (D ++ (C ++ A))) T := by
  intro M
  obtain ⟨g, g1, g2⟩ := h.2 M [] [] []
  have g3 := g2 (C.length - m)
  rw [show m + (C.length - m) = C.length by have := h.1; omega, List.append_nil, List.append_nil, List.append_nil] at g3
  have g4 : dv_trs N S (Q ++ M) (dv_sf Q) Q.length 0 0 T.length (C.length - m) ([], [], [], T.length, g, K) = .ok ([], [], [], T.length, g, K) := by
    cases C.length - m with
    | zero => rfl
    | succ k => rfl
  rw [g4] at g3
  refine ⟨g, ?_, g1⟩
  have le1 : ∀ v, 1 ≤ (dv_en v).length ∧ (dv_en v).length ≤ 2 := fun v => by rw [dv_en_len]; split <;> omega
  have a1 := le1 T.length
  have a2 := le1 D.length
  have a3 := le1 C.length
  have a4 := le1 A.length
  have esec : dv_sec tl 0 (dv_en (1 + (dv_en T.length).length + ((dv_en D.length).length + D.length) + ((dv_en C.length).length + C.length) + ((dv_en A.length).length + A.length)) ++ (dv_en T.length ++ (0 :: (dv_en D.length ++ (dv_en C.length ++ dv_en A.length)))) ++ (D ++ (C ++ A))) = .ok (T.length, D, C, A, []) := by
    unfold dv_sec
    rw [List.append_assoc, dv_en_num (by omega)]
    dsimp only
    rw [if_neg (by simp only [List.length_append, List.length_cons]; omega), List.append_assoc, dv_en_num (by omega)]
    dsimp only
    rw [if_neg (by omega), List.cons_append]
    dsimp only
    rw [if_pos rfl, List.append_assoc, dv_en_num (by omega)]
    dsimp only
    rw [List.append_assoc, dv_en_num (by omega)]
    dsimp only
    rw [dv_en_num (by omega)]
    dsimp only
    rw [if_pos (by simp only [List.length_append, List.length_cons]; omega), List.take_left, List.drop_left, List.take_left, ← List.drop_drop, List.drop_left, List.drop_left, List.take_length, ← List.drop_drop, ← List.drop_drop, List.drop_left, List.drop_left, List.drop_length]
  have fin : ∀ {sf sg sp H1}, sf = dv_sf Q → sg = Q.length → sp = 0 → dv_seg (Q ++ M).length 0 (dv_hd Q T D C A ++ (D ++ (C ++ A))) = .ok (sf, sg, sp, H1) → dv_sec tl 0 H1 = .ok (T.length, D, C, A, []) → dv_dec N S tl (Q ++ M) (dv_hd Q T D C A ++ (D ++ (C ++ A))) = .ok (T.length, g) := by
    intro sf sg sp H1 h1 h2 h3 es e2
    subst h1 h2 h3
    have ew : dv_win N S tl (Q ++ M) 0 dv_g0 (dv_hd Q T D C A ++ (D ++ (C ++ A))) = .ok (T.length, g, []) := by
      simp only [dv_win, es, e2, g3, dv_fin, Nat.sub_zero, Nat.lt_irrefl, if_false, List.length_nil]
    unfold dv_dec
    generalize dv_hd Q T D C A ++ (D ++ (C ++ A)) = HH at ew es
    cases HH with
    | nil => simp [dv_seg] at es
    | cons b H =>
      rw [List.length_cons]
      simp only [dv_wns, ew]
      cases H.length with
      | zero => rfl
      | succ k => rfl
  by_cases z : Q.length = 0
  · have e0 : dv_hd Q T D C A ++ (D ++ (C ++ A)) = 0 :: (dv_en (1 + (dv_en T.length).length + ((dv_en D.length).length + D.length) + ((dv_en C.length).length + C.length) + ((dv_en A.length).length + A.length)) ++ (dv_en T.length ++ (0 :: (dv_en D.length ++ (dv_en C.length ++ dv_en A.length)))) ++ (D ++ (C ++ A))) := by
      unfold dv_hd
      rw [if_pos z]
      rfl
    refine fin (sf := 0) (sg := 0) (sp := 0) ?_ z.symm rfl ?_ esec
    · unfold dv_sf; rw [if_pos z]
    · rw [e0]
      rfl
  · have e0 : dv_hd Q T D C A ++ (D ++ (C ++ A)) = 1 :: (dv_en Q.length ++ (dv_en 0 ++ (dv_en (1 + (dv_en T.length).length + ((dv_en D.length).length + D.length) + ((dv_en C.length).length + C.length) + ((dv_en A.length).length + A.length)) ++ (dv_en T.length ++ (0 :: (dv_en D.length ++ (dv_en C.length ++ dv_en A.length)))) ++ (D ++ (C ++ A))))) := by
      unfold dv_hd
      rw [if_neg z]
      simp only [List.cons_append, List.append_assoc]
    refine fin (sf := 1) (sg := Q.length) (sp := 0) ?_ rfl rfl ?_ esec
    · unfold dv_sf; rw [if_neg z]
    · rw [e0]
      simp only [dv_seg, show ¬ (2 < 1) by omega, if_false, Nat.one_ne_zero, dv_en_num (show Q.length < 16384 by omega), dv_en_num (show 0 < 16384 by omega), if_true, Nat.zero_add, List.length_append]
      rw [if_pos (by omega)]
end
end
section
/-! X: the space, its chains, the empty window -/
section
variable {xq0 xq1 xq2 xq3 xq4 xq5 xq6 xtl xdl xnc xsc xts xni xwl xsf xsl xss xws xwn xpn xle xla xbk xbz xba xbg : Int32} {xst xln xok xoo xpz xfh xsh xne xsm xwb xwk xwo xcu xsp xsa xpv xch xpt xpl : Nat → Int32}
variable {Q T : List Nat}
theorem dx_fs43 {post : SX → Prop} (hQ : Q.length ≤ 128) (hT : T.length ≤ 128) (hs : dv_Seg xst 512 T)
    (ok : ∀ sa, dv_Seg sa 0 (Q ++ T) → post (xq0, xq1, xq2, xq3, xq4, xq5, xq6, xtl, xdl, xnc, xsc, xts, xni, xwl, xsf, xsl, xss, xws, xwn, nI (Q.length + T.length), xle, xla, xbk, xbz, xba, xbg, xst, xln, xok, xoo, xpz, xfh, xsh, xne, xsm, xwb, xwk, xwo, xcu, xsp, sa, xpv, xch, xpt, xpl)) :
    ∀ (m f i : Nat) (xsa : Nat → Int32), i + m = T.length → m < f → dv_Seg xsa 0 Q → (∀ j, j < i → xsa (Q.length + j) = nI (dv_gl T j)) → wX_fillSpace_43 post (nI Q.length) (nI T.length) xq0 xq1 xq2 xq3 xq4 xq5 xq6 xtl xdl xnc xsc xts xni xwl xsf xsl xss xws xwn xpn xle xla xbk xbz xba xbg f (nI i) xst xln xok xoo xpz xfh xsh xne xsm xwb xwk xwo xcu xsp xsa xpv xch xpt xpl := by
  intro m
  induction m with
  | zero =>
    intro f i xsa hi hf h1 h2
    obtain ⟨f, rfl⟩ : ∃ m, f = m + 1 := ⟨f - 1, by omega⟩
    obtain rfl : i = T.length := by omega
    refine br_t (nI_le (by omega) (by omega)) (nm_r (nI_add _ _) (ok _ (dv_Seg_app h1 fun j hj => ?_)))
    rw [Nat.zero_add]
    exact ⟨h2 j hj, (hs j hj).2⟩
  | succ m ih =>
    intro f i xsa hi hf h1 h2
    obtain ⟨f, rfl⟩ : ∃ m, f = m + 1 := ⟨f - 1, by omega⟩
    refine br_f (nI_ge (by omega) (by omega)) ?_
    rw [show (512 : Int32) + nI i = nI (512 + i) from nI_add 512 i, nI_add, nI_clamp (by omega), nI_clamp (by omega), (hs i (by omega)).1]
    refine ⟨vp_in_nI (by omega) (by omega), vp_in_nI (by omega) (by omega), nm_e (nm_r (nI_1 i) (ih f (i + 1) _ (by omega) (by omega) (dv_Seg_out h1 (by omega)) fun j hj => ?_))⟩
    by_cases z : j = i
    · subst z; rw [pk_us]
    · rw [pk_un (by omega)]; exact h2 j (by omega)
theorem dx_fs16 {post : SX → Prop} (hQ : Q.length ≤ 128) (hT : T.length ≤ 128) (hs0 : dv_Seg xst 0 Q) (hs : dv_Seg xst 512 T)
    (ok : ∀ sa, dv_Seg sa 0 (Q ++ T) → post (xq0, xq1, xq2, xq3, xq4, xq5, xq6, xtl, xdl, xnc, xsc, xts, xni, xwl, xsf, xsl, xss, xws, xwn, nI (Q.length + T.length), xle, xla, xbk, xbz, xba, xbg, xst, xln, xok, xoo, xpz, xfh, xsh, xne, xsm, xwb, xwk, xwo, xcu, xsp, sa, xpv, xch, xpt, xpl)) :
    ∀ (m f i : Nat) (xsa : Nat → Int32), i + m = Q.length → m < f → (∀ j, j < i → xsa j = nI (dv_gl Q j)) → wX_fillSpace_16 post (nI Q.length) (nI T.length) xq0 xq1 xq2 xq3 xq4 xq5 xq6 xtl xdl xnc xsc xts xni xwl xsf xsl xss xws xwn xpn xle xla xbk xbz xba xbg f (nI i) xst xln xok xoo xpz xfh xsh xne xsm xwb xwk xwo xcu xsp xsa xpv xch xpt xpl := by
  intro m
  induction m with
  | zero =>
    intro f i xsa hi hf h2
    obtain ⟨f, rfl⟩ : ∃ m, f = m + 1 := ⟨f - 1, by omega⟩
    obtain rfl : i = Q.length := by omega
    refine br_t (nI_le (by omega) (by omega)) ⟨T.length + 1, dx_fs43 hQ hT hs ok T.length _ 0 xsa (by omega) (by omega) (fun j hj => ?_) (fun j hj => absurd hj (Nat.not_lt_zero j))⟩
    rw [Nat.zero_add]
    exact ⟨h2 j hj, (hs0 j hj).2⟩
  | succ m ih =>
    intro f i xsa hi hf h2
    obtain ⟨f, rfl⟩ : ∃ m, f = m + 1 := ⟨f - 1, by omega⟩
    refine br_f (nI_ge (by omega) (by omega)) ?_
    have e := (hs0 i (by omega)).1
    rw [Nat.zero_add] at e
    rw [show (0 : Int32) + nI i = nI (0 + i) from nI_add 0 i, Nat.zero_add, nI_clamp (by omega), e]
    refine ⟨vp_in_nI (by omega) (by omega), vp_in_nI (by omega) (by omega), nm_e (nm_r (nI_1 i) (ih f (i + 1) _ (by omega) (by omega) fun j hj => ?_))⟩
    by_cases z : j = i
    · subst z; rw [pk_us]
    · rw [pk_un (by omega)]; exact h2 j (by omega)
theorem dx_fs {post : SX → Prop} (hQ : Q.length ≤ 128) (hT : T.length ≤ 128) (l0 : xln 0 = nI Q.length) (l1 : xln 1 = nI T.length) (hs0 : dv_Seg xst 0 Q) (hs : dv_Seg xst 512 T)
    (ok : ∀ sa, dv_Seg sa 0 (Q ++ T) → post (xq0, xq1, xq2, xq3, xq4, xq5, xq6, xtl, xdl, xnc, xsc, xts, xni, xwl, xsf, xsl, xss, xws, xwn, nI (Q.length + T.length), xle, xla, xbk, xbz, xba, xbg, xst, xln, xok, xoo, xpz, xfh, xsh, xne, xsm, xwb, xwk, xwo, xcu, xsp, sa, xpv, xch, xpt, xpl)) : wpX_fillSpace post (xq0, xq1, xq2, xq3, xq4, xq5, xq6, xtl, xdl, xnc, xsc, xts, xni, xwl, xsf, xsl, xss, xws, xwn, xpn, xle, xla, xbk, xbz, xba, xbg, xst, xln, xok, xoo, xpz, xfh, xsh, xne, xsm, xwb, xwk, xwo, xcu, xsp, xsa, xpv, xch, xpt, xpl) := by
  unfold wpX_fillSpace
  exact nm_r l0 (nm_r l1 ⟨Q.length + 1, dx_fs16 hQ hT hs0 hs ok Q.length _ 0 xsa (by omega) (by omega) (fun j hj => absurd hj (Nat.not_lt_zero j))⟩)
def dv_PV (n : Nat) (pv : Nat → Int32) : Prop := ∀ q, q < n → pv q = -1 ∨ ∃ j, j < q ∧ pv q = nI j
def dv_CH (n : Nat) (ch : Nat → Int32) : Prop := ∀ h, h < 64 → ch h = -1 ∨ ∃ j, j < n ∧ ch h = nI j
theorem dx_ch42 {post : SX → Prop} {J : Int32 → (Nat → Int32) → (Nat → Int32) → (Nat → Int32) → (Nat → Int32) → (Nat → Int32) → (Nat → Int32) → (Nat → Int32) → (Nat → Int32) → (Nat → Int32) → (Nat → Int32) → (Nat → Int32) → (Nat → Int32) → (Nat → Int32) → (Nat → Int32) → (Nat → Int32) → (Nat → Int32) → (Nat → Int32) → (Nat → Int32) → (Nat → Int32) → Prop} {i : Nat} (hi : i + 4 ≤ 256)
    (ok : ∀ h, h < 64 → J (nI (i + 1)) xst xln xok xoo xpz xfh xsh xne xsm xwb xwk xwo xcu xsp xsa (upd xpv i (xch h)) (upd xch h (nI i)) xpt xpl) :
    ∀ (k f t : Nat) (x : Int32), t + k = 4 → k < f → wX_chainSpace_42 post J (nI i) xq0 xq1 xq2 xq3 xq4 xq5 xq6 xtl xdl xnc xsc xts xni xwl xsf xsl xss xws xwn xpn xle xla xbk xbz xba xbg xst xln xok xoo xpz xfh xsh xne xsm xwb xwk xwo xcu xsp xsa xpv xch xpt xpl f x (nI t) := by
  intro k
  induction k with
  | zero =>
    intro f t x ht hf
    obtain ⟨f, rfl⟩ : ∃ m, f = m + 1 := ⟨f - 1, by omega⟩
    obtain rfl : t = 4 := by omega
    obtain ⟨h, hh, eh⟩ := pk_andE ((x ^^^ ((x.toUInt32 >>> ((6 : Int32).toUInt32 &&& Int32.toUInt32 31)).toInt32)) ^^^ ((x.toUInt32 >>> ((12 : Int32).toUInt32 &&& Int32.toUInt32 31)).toInt32)) (m := 63) 6 (by decide)
    have hh' : h < 64 := hh
    refine br_t (nI_le (a := 4) (b := 4) (by omega) (by omega)) (nm_r eh ?_)
    rw [nI_clamp (by omega), nI_clamp (by omega)]
    exact ⟨vp_in_nI hh' (by omega), vp_in_nI (by omega) (by omega), nm_e ⟨vp_in_nI hh' (by omega), nm_e (nm_r (nI_1 i) (ok h hh'))⟩⟩
  | succ k ih =>
    intro f t x ht hf
    obtain ⟨f, rfl⟩ : ∃ m, f = m + 1 := ⟨f - 1, by omega⟩
    refine br_f (nI_ge (b := 4) (by omega) (by omega)) ?_
    rw [nI_add i t]
    exact ⟨vp_in_nI (by omega) (by omega), nm_e (nm_r (nI_1 t) (ih f (t + 1) _ (by omega) (by omega)))⟩
theorem dx_ch23 {post : SX → Prop} {n : Nat} (hn : n ≤ 256) (ok : ∀ pv ch, (∀ q, q + 4 ≤ n → pv q = -1 ∨ ∃ j, j < q ∧ pv q = nI j) → post (xq0, xq1, xq2, xq3, xq4, xq5, xq6, xtl, xdl, xnc, xsc, xts, xni, xwl, xsf, xsl, xss, xws, xwn, nI n, xle, xla, xbk, xbz, xba, xbg, xst, xln, xok, xoo, xpz, xfh, xsh, xne, xsm, xwb, xwk, xwo, xcu, xsp, xsa, pv, ch, xpt, xpl)) :
    ∀ (m f i : Nat) (xpv xch : Nat → Int32), n < i + m + 4 → m < f → i ≤ 256 → dv_PV i xpv → dv_CH i xch → wX_chainSpace_23 post xq0 xq1 xq2 xq3 xq4 xq5 xq6 xtl xdl xnc xsc xts xni xwl xsf xsl xss xws xwn (nI n) xle xla xbk xbz xba xbg f (nI i) xst xln xok xoo xpz xfh xsh xne xsm xwb xwk xwo xcu xsp xsa xpv xch xpt xpl := by
  intro m
  induction m with
  | zero =>
    intro f i xpv xch hi hf hi2 h1 h2
    obtain ⟨f, rfl⟩ : ∃ m, f = m + 1 := ⟨f - 1, by omega⟩
    refine br_t ?_ (ok _ _ fun q hq => h1 q (by omega))
    rw [show nI i + 4 = nI (i + 4) from nI_add i 4]
    exact nI_lt (by omega) (by omega)
  | succ m ih =>
    intro f i xpv xch hi hf hi2 h1 h2
    obtain ⟨f, rfl⟩ : ∃ m, f = m + 1 := ⟨f - 1, by omega⟩
    refine pk_lt n (i + 4) (fun lt => ok _ _ fun q hq => h1 q (by omega)) (fun ge => ?_) rfl (nI_add i 4)
    refine ⟨vp_in_nI (by omega) (by omega), nm_e ⟨4, dx_ch42 (by omega) (fun h hh => ih f (i + 1) _ _ (by omega) (by omega) (by omega) ?_ ?_) 3 4 1 _ (by omega) (by omega)⟩⟩
    · intro q hq
      by_cases z : q = i
      · subst z; rw [pk_us]; exact h2 h hh
      · rw [pk_un z]; exact h1 q (by omega)
    · intro h' hh'
      by_cases z : h' = h
      · subst z; rw [pk_us]; exact Or.inr ⟨i, by omega, rfl⟩
      · rw [pk_un z]
        rcases h2 h' hh' with y | ⟨j, hj, y⟩
        · exact Or.inl y
        · exact Or.inr ⟨j, by omega, y⟩
theorem dx_ch2 {post : SX → Prop} {n : Nat} (hn : n ≤ 256) (ok : ∀ pv ch, (∀ q, q + 4 ≤ n → pv q = -1 ∨ ∃ j, j < q ∧ pv q = nI j) → post (xq0, xq1, xq2, xq3, xq4, xq5, xq6, xtl, xdl, xnc, xsc, xts, xni, xwl, xsf, xsl, xss, xws, xwn, nI n, xle, xla, xbk, xbz, xba, xbg, xst, xln, xok, xoo, xpz, xfh, xsh, xne, xsm, xwb, xwk, xwo, xcu, xsp, xsa, pv, ch, xpt, xpl)) :
    ∀ (m f i : Nat) (xch : Nat → Int32), i + m = 64 → m < f → (∀ j, j < i → xch j = -1) → wX_chainSpace_2 post xq0 xq1 xq2 xq3 xq4 xq5 xq6 xtl xdl xnc xsc xts xni xwl xsf xsl xss xws xwn (nI n) xle xla xbk xbz xba xbg f (nI i) xst xln xok xoo xpz xfh xsh xne xsm xwb xwk xwo xcu xsp xsa xpv xch xpt xpl := by
  intro m
  induction m with
  | zero =>
    intro f i xch hi hf h1
    obtain ⟨f, rfl⟩ : ∃ m, f = m + 1 := ⟨f - 1, by omega⟩
    obtain rfl : i = 64 := by omega
    refine br_t (nI_le (a := 64) (b := 64) (by omega) (by omega)) ⟨n + 1, dx_ch23 hn ok n (n + 1) 0 _ _ (by omega) (by omega) (by omega) (fun q hq => absurd hq (Nat.not_lt_zero q)) (fun h hh => Or.inl (h1 h hh))⟩
  | succ m ih =>
    intro f i xch hi hf h1
    obtain ⟨f, rfl⟩ : ∃ m, f = m + 1 := ⟨f - 1, by omega⟩
    refine br_f (nI_ge (b := 64) (by omega) (by omega)) ?_
    rw [nI_clamp (by omega)]
    refine ⟨vp_in_nI (by omega) (by omega), nm_e (nm_r (nI_1 i) (ih f (i + 1) _ (by omega) (by omega) fun j hj => ?_))⟩
    by_cases z : j = i
    · subst z; rw [pk_us]
    · rw [pk_un z]; exact h1 j (by omega)
theorem dx_ch {post : SX → Prop} {n : Nat} (hn : n ≤ 256) (ok : ∀ pv ch, (∀ q, q + 4 ≤ n → pv q = -1 ∨ ∃ j, j < q ∧ pv q = nI j) → post (xq0, xq1, xq2, xq3, xq4, xq5, xq6, xtl, xdl, xnc, xsc, xts, xni, xwl, xsf, xsl, xss, xws, xwn, nI n, xle, xla, xbk, xbz, xba, xbg, xst, xln, xok, xoo, xpz, xfh, xsh, xne, xsm, xwb, xwk, xwo, xcu, xsp, xsa, pv, ch, xpt, xpl)) : wpX_chainSpace post (xq0, xq1, xq2, xq3, xq4, xq5, xq6, xtl, xdl, xnc, xsc, xts, xni, xwl, xsf, xsl, xss, xws, xwn, nI n, xle, xla, xbk, xbz, xba, xbg, xst, xln, xok, xoo, xpz, xfh, xsh, xne, xsm, xwb, xwk, xwo, xcu, xsp, xsa, xpv, xch, xpt, xpl) := by
  unfold wpX_chainSpace
  exact ⟨65, dx_ch2 hn ok 64 65 0 xch (by omega) (by omega) (fun j hj => absurd hj (Nat.not_lt_zero j))⟩
theorem dx_ow2 {post : SX → Prop} {N S : Nat} (hN : N ≤ 4) (hS : S ≤ 3)
    (ok : ∀ ne sm pl, dv_CX N S dv_K0 0 ne sm → dv_TY (fun _ => []) xpt pl → post (xq0, xq1, xq2, xq3, xq4, xq5, xq6, xtl, xdl, xnc, xsc, xts, 0, xwl, xsf, xsl, xss, xws, xwn, xpn, nI 0, nI 0, xbk, xbz, xba, xbg, xst, xln, xok, xoo, xpz, xfh, xsh, ne, sm, xwb, xwk, xwo, xcu, xsp, xsa, xpv, xch, xpt, pl)) :
    ∀ (m f i : Nat) (xpl : Nat → Int32), i + m = 4 → m < f → (∀ j, j < i → xpl j = 0) → wX_openWindow_2 post xq0 xq1 xq2 xq3 xq4 xq5 xq6 xtl xdl xnc xsc xts xni xwl xsf xsl xss xws xwn xpn xle xla xbk xbz xba xbg f (nI i) xst xln xok xoo xpz xfh xsh xne xsm xwb xwk xwo xcu xsp xsa xpv xch xpt xpl := by
  intro m
  induction m with
  | zero =>
    intro f i xpl hi hf h1
    obtain ⟨f, rfl⟩ : ∃ m, f = m + 1 := ⟨f - 1, by omega⟩
    obtain rfl : i = 4 := by omega
    exact br_t (nI_le (a := 4) (b := 4) (by omega) (by omega)) (dx_rst hN hS fun ne sm hK => ok ne sm xpl hK fun r hr => ⟨h1 r hr, dv_Seg_nil⟩)
  | succ m ih =>
    intro f i xpl hi hf h1
    obtain ⟨f, rfl⟩ : ∃ m, f = m + 1 := ⟨f - 1, by omega⟩
    refine br_f (nI_ge (b := 4) (by omega) (by omega)) ?_
    rw [nI_clamp (by omega)]
    refine ⟨vp_in_nI (by omega) (by omega), nm_e (nm_r (nI_1 i) (ih f (i + 1) _ (by omega) (by omega) fun j hj => ?_))⟩
    by_cases z : j = i
    · subst z; rw [pk_us]
    · rw [pk_un z]; exact h1 j (by omega)
theorem dx_ow {post : SX → Prop} {N S : Nat} (hN : N ≤ 4) (hS : S ≤ 3)
    (ok : ∀ ne sm pl, dv_CX N S dv_K0 0 ne sm → dv_TY (fun _ => []) xpt pl → post (xq0, xq1, xq2, xq3, xq4, xq5, xq6, xtl, xdl, xnc, xsc, xts, 0, xwl, xsf, xsl, xss, xws, xwn, xpn, nI 0, nI 0, xbk, xbz, xba, xbg, xst, xln, xok, xoo, xpz, xfh, xsh, ne, sm, xwb, xwk, xwo, xcu, xsp, xsa, xpv, xch, xpt, pl)) : wpX_openWindow post (xq0, xq1, xq2, xq3, xq4, xq5, xq6, xtl, xdl, xnc, xsc, xts, xni, xwl, xsf, xsl, xss, xws, xwn, xpn, xle, xla, xbk, xbz, xba, xbg, xst, xln, xok, xoo, xpz, xfh, xsh, xne, xsm, xwb, xwk, xwo, xcu, xsp, xsa, xpv, xch, xpt, xpl) := by
  unfold wpX_openWindow
  exact ⟨5, dx_ow2 hN hS ok 4 5 0 xpl (by omega) (by omega) (fun j hj => absurd hj (Nat.not_lt_zero j))⟩
end
end
section
/-! X: coded bytes, numbers, opcodes, instructions -/
section
variable {xq0 xq1 xq2 xq3 xq4 xq5 xq6 xtl xdl xnc xsc xts xni xwl xsf xsl xss xws xwn xpn xle xla xbk xbz xba xbg : Int32} {xst xln xok xoo xpz xfh xsh xne xsm xwb xwk xwo xcu xsp xsa xpv xch xpt xpl : Nat → Int32}
variable {N S : Nat} {pp : Nat → List Nat}
theorem dx_put {post : SX → Prop} {r b : Nat} {v : Int32} (hr : r < 4) (hP : dv_TY pp xpt xpl) (hl : (pp r).length < 256) (hall : ∀ q, q < 4 → (pp q).length ≤ 256) (hv : v &&& 255 = nI b) (hb : b < 256)
    (ok : ∀ pt pl, dv_TY (dv_ap pp r [b]) pt pl → post (xq0, xq1, xq2, xq3, xq4, xq5, xq6, xtl, xdl, xnc, xsc, xts, xni, xwl, xsf, xsl, xss, xws, xwn, xpn, xle, xla, xbk, xbz, xba, xbg, xst, xln, xok, xoo, xpz, xfh, xsh, xne, xsm, xwb, xwk, xwo, xcu, xsp, xsa, xpv, xch, pt, pl)) : wpX_put post (xq0, xq1, xq2, xq3, xq4, xq5, xq6, xtl, xdl, xnc, xsc, xts, xni, xwl, xsf, xsl, xss, xws, xwn, xpn, xle, xla, xbk, xbz, xba, xbg, xst, xln, xok, xoo, xpz, xfh, xsh, xne, xsm, xwb, xwk, xwo, xcu, xsp, xsa, xpv, xch, xpt, xpl) (nI r) v := by
  unfold wpX_put
  have e0 := (hP r hr).1
  have cr : (nI r).toNatClampNeg = r := nI_clamp (by omega)
  have i : vp_in (nI r) 4 := vp_in_nI hr (by omega)
  have e1 : nI r * 256 + nI (pp r).length = nI (256 * r + (pp r).length) := by
    rw [show (256 : Int32) = nI 256 from rfl, pk_mul, nI_add, Nat.mul_comm]
  refine ⟨i, br_f (by rw [cr, e0]; exact nI_ge (b := 256) hl (by omega)) ⟨i, ?_⟩⟩
  rw [cr, e0, e1, nI_clamp (by omega), hv, nI_1]
  exact ⟨vp_in_nI (by omega) (by omega), nm_e ⟨i, i, nm_e (ok _ _ (dv_TY_push hP hr hb hl hall))⟩⟩
theorem dv_or7 : ∀ x, x < 128 → (128 : Int32) ||| nI x = nI (128 + x) := by decide +kernel
theorem dx_putI {post : SX → Prop} {r v : Nat} (hr : r < 4) (hv : v < 16384) (hP : dv_TY pp xpt xpl) (hl : (pp r).length < 255) (hall : ∀ q, q < 4 → (pp q).length ≤ 255)
    (ok : ∀ pt pl, dv_TY (dv_ap pp r (dv_en v)) pt pl → post (xq0, xq1, xq2, xq3, xq4, xq5, xq6, xtl, xdl, xnc, xsc, xts, xni, xwl, xsf, xsl, xss, xws, xwn, xpn, xle, xla, xbk, xbz, xba, xbg, xst, xln, xok, xoo, xpz, xfh, xsh, xne, xsm, xwb, xwk, xwo, xcu, xsp, xsa, xpv, xch, pt, pl)) : wpX_putInteger post (xq0, xq1, xq2, xq3, xq4, xq5, xq6, xtl, xdl, xnc, xsc, xts, xni, xwl, xsf, xsl, xss, xws, xwn, xpn, xle, xla, xbk, xbz, xba, xbg, xst, xln, xok, xoo, xpz, xfh, xsh, xne, xsm, xwb, xwk, xwo, xcu, xsp, xsa, xpv, xch, xpt, xpl) (nI r) (nI v) := by
  unfold wpX_putInteger
  refine br_t (nI_lt (b := 16384) hv (by omega)) ?_
  unfold wX_putInteger_23
  have m7 : nI v &&& 127 = nI (v % 128) := pk_andN (by omega) 7 (by decide)
  refine pk_lt v 128 (fun lt => ?_) (fun ge => ?_)
  · have e : dv_en v = [v] := by unfold dv_en; rw [if_pos lt]
    rw [e] at ok
    unfold wX_putInteger_46
    refine dx_put (b := v) hr hP (by omega) (fun q hq => Nat.le_trans (hall q hq) (by omega)) ?_ (by omega) ok
    rw [m7, Nat.mod_eq_of_lt lt]
    exact dv_m255 (by omega)
  · have e : dv_en v = [128 + v / 128] ++ [v % 128] := by unfold dv_en; rw [if_neg (by omega)]; rfl
    rw [e, ← dv_ap_ap] at ok
    have hd : v / 128 < 128 := by omega
    refine dx_put (b := 128 + v / 128) hr hP (by omega) (fun q hq => Nat.le_trans (hall q hq) (by omega)) ?_ (by omega) fun pt pl hP' => ?_
    · rw [pk_ushrN (by omega) _ 7 (by decide), pk_andN (by omega) 7 (by decide), show v / 2 ^ 7 % 2 ^ 7 = v / 128 by omega, dv_or7 _ hd]
      exact dv_m255 (by omega)
    · unfold wX_putInteger_46
      refine dx_put (b := v % 128) hr hP' ?_ ?_ ?_ (by omega) ok
      · rw [dv_ap_s, List.length_append, List.length_singleton]; omega
      · intro q hq
        have := hall q hq
        by_cases z : q = r
        · rw [z, dv_ap_s, List.length_append, List.length_singleton]; omega
        · rw [dv_ap_n z]; omega
      · rw [m7]
        exact dv_m255 (by omega)
theorem dx_fo {post : Int32 → Prop} {e1 e2 : Nat} (hN : N ≤ 4) (hS : S ≤ 3) (hT : dv_TB N S xfh xsh) (he1 : e1 < 2048) (he2 : e2 < 2048)
    (h0 : (∀ o, o < dv_sz N S → ¬ (dv_T1 N S o = e1 ∧ dv_T2 N S o = e2)) → post (-1)) (h1 : ∀ o, o < dv_sz N S → dv_T1 N S o = e1 → dv_T2 N S o = e2 → post (nI o)) :
    wpX_findOpcode post (xq0, xq1, xq2, xq3, xq4, xq5, xq6, xtl, xdl, xnc, xsc, nI (dv_sz N S), xni, xwl, xsf, xsl, xss, xws, xwn, xpn, xle, xla, xbk, xbz, xba, xbg, xst, xln, xok, xoo, xpz, xfh, xsh, xne, xsm, xwb, xwk, xwo, xcu, xsp, xsa, xpv, xch, xpt, xpl) (nI e1) (nI e2) := by
  have hz : dv_sz N S ≤ 256 := by unfold dv_sz; omega
  have loop : ∀ m f i : Nat, i + m = dv_sz N S → m < f → (∀ o, o < i → ¬ (dv_T1 N S o = e1 ∧ dv_T2 N S o = e2)) → wX_findOpcode_2 post (nI e1) (nI e2) xq0 xq1 xq2 xq3 xq4 xq5 xq6 xtl xdl xnc xsc (nI (dv_sz N S)) xni xwl xsf xsl xss xws xwn xpn xle xla xbk xbz xba xbg xst xln xok xoo xpz xfh xsh xne xsm xwb xwk xwo xcu xsp xsa xpv xch xpt xpl f (nI i) := by
    intro m
    induction m with
    | zero =>
      intro f i hi hf hp
      obtain ⟨f, rfl⟩ : ∃ m, f = m + 1 := ⟨f - 1, by omega⟩
      exact br_t (nI_le (by omega) (by omega)) (h0 fun o ho => hp o (by omega))
    | succ m ih =>
      intro f i hi hf hp
      obtain ⟨f, rfl⟩ : ∃ m, f = m + 1 := ⟨f - 1, by omega⟩
      obtain ⟨t1, t2⟩ := hT i (by omega)
      obtain ⟨_, _, f3, f4⟩ := dv_T_fact N (by omega) S (by omega) i (by omega)
      have ci : (nI i).toNatClampNeg = i := nI_clamp (by omega)
      have i2 : vp_in (nI i) 256 := vp_in_nI (by omega) (by omega)
      have nx : ¬ (dv_T1 N S i = e1 ∧ dv_T2 N S i = e2) → wX_findOpcode_2 post (nI e1) (nI e2) xq0 xq1 xq2 xq3 xq4 xq5 xq6 xtl xdl xnc xsc (nI (dv_sz N S)) xni xwl xsf xsl xss xws xwn xpn xle xla xbk xbz xba xbg xst xln xok xoo xpz xfh xsh xne xsm xwb xwk xwo xcu xsp xsa xpv xch xpt xpl f (nI (i + 1)) := by
        intro hne
        refine ih f (i + 1) (by omega) (by omega) fun o ho => ?_
        by_cases z : o = i
        · rw [z]; exact hne
        · exact hp o (by omega)
      refine br_f (nI_ge (by omega) (by omega)) ⟨i2, ?_⟩
      rw [ci]
      refine pk_eq (dv_T1 N S i) e1 (fun z => ⟨i2, pk_eq (dv_T2 N S i) e2 (fun y => h1 i (by omega) z y) (fun y => nm_r (nI_1 i) (nx fun q => y q.2)) t2⟩) (fun z => nm_r (nI_1 i) (nx fun q => z q.1)) t1
  unfold wpX_findOpcode
  exact ⟨dv_sz N S + 1, loop (dv_sz N S) _ 0 (by omega) (by omega) fun o ho => absurd ho (Nat.not_lt_zero o)⟩
theorem dv_Tex1 {e : Nat} (h : (∃ a, a < 18 ∧ e = 1 + 4 * a) ∨ e = 2 ∨ (∃ m, m < 2 + N + S ∧ e = 3 + 128 * m) ∨ (∃ m c, m < 2 + N + S ∧ 4 ≤ c ∧ c < 19 ∧ e = 3 + 4 * c + 128 * m)) : ∃ o, o < dv_sz N S ∧ dv_T1 N S o = e ∧ dv_T2 N S o = 0 := by
  unfold dv_T1 dv_T2 dv_sz
  rcases h with ⟨a, ha, rfl⟩ | rfl | ⟨m, hm, rfl⟩ | ⟨m, c, hm, h4, hc, rfl⟩
  · exact ⟨1 + a, by omega, by rw [dv_TA ha], by rw [dv_TA ha]⟩
  · exact ⟨0, by omega, rfl, rfl⟩
  · exact ⟨19 + 16 * m, by omega, by rw [dv_TC0 hm], by rw [dv_TC0 hm]⟩
  · exact ⟨19 + 16 * m + c - 3, by omega, by rw [dv_TC hm h4 hc], by rw [dv_TC hm h4 hc]⟩
theorem dx_em105 {post : SX → Prop} {n e le0 d : Nat} (hN : N ≤ 4) (hS : S ≤ 3) (hT : dv_TB N S xfh xsh) (he : e < 2048) (hn : n < 16384) (hP : dv_TY pp xpt xpl) (hl : ∀ q, q < 4 → (pp q).length ≤ 128) (hd : d < 2)
    (hex : ∃ o, o < dv_sz N S ∧ dv_T1 N S o = e ∧ dv_T2 N S o = 0)
    (ok1 : d = 1 → ∀ op pt pl, op < dv_sz N S → dv_T1 N S op = e → dv_T2 N S op = 0 → dv_TY (dv_ap pp 2 [op]) pt pl → post (xq0, xq1, xq2, xq3, xq4, xq5, xq6, xtl, xdl, xnc, xsc, nI (dv_sz N S), xni, xwl, xsf, xsl, xss, xws, xwn, xpn, nI e, nI (pp 2).length, xbk, xbz, xba, xbg, xst, xln, xok, xoo, xpz, xfh, xsh, xne, xsm, xwb, xwk, xwo, xcu, xsp, xsa, xpv, xch, pt, pl))
    (ok0 : d = 0 → ∀ op pt pl, op < dv_sz N S → dv_T1 N S op = e → dv_T2 N S op = 0 → dv_TY (dv_ap pp 2 (op :: dv_en n)) pt pl → post (xq0, xq1, xq2, xq3, xq4, xq5, xq6, xtl, xdl, xnc, xsc, nI (dv_sz N S), xni, xwl, xsf, xsl, xss, xws, xwn, xpn, nI 0, nI (pp 2).length, xbk, xbz, xba, xbg, xst, xln, xok, xoo, xpz, xfh, xsh, xne, xsm, xwb, xwk, xwo, xcu, xsp, xsa, xpv, xch, pt, pl)) :
    wX_emitInstruction_105 post (nI n) (nI d) (nI e) xq0 xq1 xq2 xq3 xq4 xq5 xq6 xtl xdl xnc xsc (nI (dv_sz N S)) xni xwl xsf xsl xss xws xwn xpn (nI le0) xla xbk xbz xba xbg xst xln xok xoo xpz xfh xsh xne xsm xwb xwk xwo xcu xsp xsa xpv xch xpt xpl := by
  have hz : dv_sz N S ≤ 256 := by unfold dv_sz; omega
  have l2 := hl 2 (by omega)
  unfold wX_emitInstruction_105
  refine dx_fo (e2 := 0) hN hS hT he (by omega) (fun hno => ?_) (fun op ho t1 t2 => ?_)
  · obtain ⟨o, h1, h2, h3⟩ := hex
    exact absurd ⟨h2, h3⟩ (hno o h1)
  · refine nm_r (hP 2 (by omega)).1 (dx_put (r := 2) (b := op) (by omega) hP (by omega) (fun q hq => Nat.le_trans (hl q hq) (by omega)) (dv_m255 (by omega)) (by omega) fun pt pl hP' => ?_)
    refine pk_eq d 0 (fun z => ?_) (fun z => ?_)
    · unfold wX_emitInstruction_143
      refine br_t (by rw [z]; rfl) (dx_putI (r := 2) (by omega) hn hP' ?_ ?_ fun pt2 pl2 hP2 => ?_)
      · rw [dv_ap_s, List.length_append, List.length_singleton]; omega
      · intro q hq
        have := hl q hq
        by_cases y : q = 2
        · rw [y, dv_ap_s, List.length_append, List.length_singleton]; omega
        · rw [dv_ap_n y]; omega
      · rw [dv_ap_ap] at hP2
        exact ok0 z op pt2 pl2 ho t1 t2 hP2
    · unfold wX_emitInstruction_143
      exact br_f (fun q => z ((nI_eq (b := 0) (by omega) (by omega)).mp q)) (ok1 (by omega) op pt pl ho t1 t2 hP')
def dv_LH (pp : Nat → List Nat) (le la : Nat) : Prop := le = 0 ∨ ∃ C0 x, pp 2 = C0 ++ [x] ∧ la = C0.length
theorem dx_em {post : SX → Prop} {kind n mode le la : Nat} (hN : N ≤ 4) (hS : S ≤ 3) (hT : dv_TB N S xfh xsh) (hP : dv_TY pp xpt xpl) (hl : ∀ q, q < 4 → (pp q).length ≤ 128)
    (hk : (kind = 1 ∧ mode = 0 ∧ 1 ≤ n) ∨ (kind = 2 ∧ mode = 0 ∧ 4 ≤ n) ∨ (kind = 3 ∧ mode < 2 + N + S ∧ 4 ≤ n)) (hn : n ≤ 128) (hle : le < 2048)
    (hL : dv_LH pp le la)
    (ok : ∀ pp' le' la' pt pl, dv_EM N S kind n mode pp le la pp' le' la' → dv_TY pp' pt pl → le' < 2048 → (∀ q, q < 4 → (pp' q).length ≤ (pp q).length + 3) → post (xq0, xq1, xq2, xq3, xq4, xq5, xq6, xtl, xdl, xnc, xsc, nI (dv_sz N S), xni, xwl, xsf, xsl, xss, xws, xwn, xpn, nI le', nI la', xbk, xbz, xba, xbg, xst, xln, xok, xoo, xpz, xfh, xsh, xne, xsm, xwb, xwk, xwo, xcu, xsp, xsa, xpv, xch, pt, pl)) :
    wpX_emitInstruction post (xq0, xq1, xq2, xq3, xq4, xq5, xq6, xtl, xdl, xnc, xsc, nI (dv_sz N S), xni, xwl, xsf, xsl, xss, xws, xwn, xpn, nI le, nI la, xbk, xbz, xba, xbg, xst, xln, xok, xoo, xpz, xfh, xsh, xne, xsm, xwb, xwk, xwo, xcu, xsp, xsa, xpv, xch, xpt, xpl) (nI kind) (nI n) (nI mode) := by
  have hz : dv_sz N S ≤ 256 := by unfold dv_sz; omega
  have m9 : mode < 9 := by omega
  have lap : ∀ M : List Nat, M.length ≤ 3 → ∀ q, q < 4 → (dv_ap pp 2 M q).length ≤ (pp q).length + 3 := by
    intro M hM q hq
    by_cases z : q = 2
    · rw [z, dv_ap_s, List.length_append]; omega
    · rw [dv_ap_n z]; omega
  have ee : nI kind + 128 * nI mode = nI (kind + 128 * mode) := by rw [show (128 : Int32) = nI 128 from rfl, pk_mul, nI_add]
  have dir : (kind = 1 ∧ n ≤ 17) ∨ (kind = 3 ∧ n ≤ 18) → wX_emitInstruction_27 post (nI kind) (nI n) (nI mode) xq0 xq1 xq2 xq3 xq4 xq5 xq6 xtl xdl xnc xsc (nI (dv_sz N S)) xni xwl xsf xsl xss xws xwn xpn (nI le) (nI la) xbk xbz xba xbg xst xln xok xoo xpz xfh xsh xne xsm xwb xwk xwo xcu xsp xsa xpv xch xpt xpl := by
    intro hd
    have n32 : n < 32 := by omega
    have e146 : nI (kind + 128 * mode) + 4 * nI n = nI (kind + 4 * n + 128 * mode) := by
      rw [show (4 : Int32) = nI 4 from rfl, pk_mul, nI_add]
      exact congrArg nI (by omega)
    have go105 : wX_emitInstruction_105 post (nI n) (nI 1) (nI (kind + 4 * n + 128 * mode)) xq0 xq1 xq2 xq3 xq4 xq5 xq6 xtl xdl xnc xsc (nI (dv_sz N S)) xni xwl xsf xsl xss xws xwn xpn (nI le) (nI la) xbk xbz xba xbg xst xln xok xoo xpz xfh xsh xne xsm xwb xwk xwo xcu xsp xsa xpv xch xpt xpl := by
      refine dx_em105 (pp := pp) hN hS hT (by omega) (by omega) hP hl (by omega) (dv_Tex1 ?_) (fun _ op pt pl ho t1 t2 hP' => ?_) (fun q => absurd q (by omega))
      · rcases hd with ⟨h1, h2⟩ | ⟨h1, h2⟩
        · exact Or.inl ⟨n, by omega, by omega⟩
        · exact Or.inr (Or.inr (Or.inr ⟨mode, n, by omega, by omega, by omega, by omega⟩))
      · exact ok _ _ _ pt pl (Or.inr (Or.inl ⟨op, n32, ho, t1, t2, rfl, rfl, rfl⟩)) hP' (by omega) (lap _ (by simp))
    unfold wX_emitInstruction_27 wX_emitInstruction_32
    refine nm_r ee (br_f (by decide) (nm_r e146 (pk_eq le 0 (fun z => ?_) (fun z => ?_))))
    · unfold wX_emitInstruction_77
      exact br_t (by decide) go105
    · refine dx_fo hN hS hT hle (by omega) (fun _ => ?_) (fun op ho t1 t2 => ?_)
      · unfold wX_emitInstruction_77
        exact br_t (by decide) go105
      · unfold dv_LH at hL
        rcases hL with y | ⟨C0, x, c1, c2⟩
        · exact absurd y z
        · unfold wX_emitInstruction_77
          have p2 := hP 2 (by omega)
          have l2 := hl 2 (by omega)
          rw [c1, List.length_append, List.length_singleton] at l2
          have ea : (512 : Int32) + nI la = nI (512 + la) := nI_add 512 la
          refine br_f (nI_pos (by omega)) ?_
          rw [ea, nI_clamp (by omega)]
          refine ⟨vp_in_nI (by omega) (by omega), nm_e (ok (dv_up pp 2 (C0 ++ [op])) 0 la _ _ (Or.inl ⟨op, x, C0, n32, z, c1, c2, ho, t1, t2, rfl, rfl⟩) ?_ (by omega) ?_)⟩
          · have es : (pp 2).set la op = C0 ++ [op] := by rw [c1, c2]; simp
            refine dv_TY_up hP ?_ (fun q hq hne => rfl) ?_ (fun q hq hne i hi => pk_un ?_)
            · rw [p2.1, c1]; simp
            · have := dv_Seg_set (b := op) p2.2 (i := la) (by rw [c1, c2]; simp) (by omega)
              rw [es] at this
              exact this
            · have := hl q hq
              omega
          · intro q hq
            by_cases y : q = 2
            · rw [y, dv_up_s, c1]; simp
            · rw [dv_up_n y]; omega
  have ind : (kind = 1 ∧ 17 < n) ∨ kind = 2 ∨ (kind = 3 ∧ 18 < n) → wX_emitInstruction_31 post (nI kind) (nI n) (nI mode) xq0 xq1 xq2 xq3 xq4 xq5 xq6 xtl xdl xnc xsc (nI (dv_sz N S)) xni xwl xsf xsl xss xws xwn xpn (nI le) (nI la) xbk xbz xba xbg xst xln xok xoo xpz xfh xsh xne xsm xwb xwk xwo xcu xsp xsa xpv xch xpt xpl := by
    intro hd
    unfold wX_emitInstruction_31 wX_emitInstruction_32
    refine nm_r ee (br_t (by decide) (dx_em105 (d := 0) (pp := pp) hN hS hT (by omega) (by omega) hP hl (by omega) (dv_Tex1 ?_) (fun q => absurd q (by omega)) (fun _ op pt pl ho t1 t2 hP' => ?_)))
    · rcases hd with ⟨h1, h2⟩ | h1 | ⟨h1, h2⟩
      · exact Or.inl ⟨0, by omega, by omega⟩
      · exact Or.inr (Or.inl (by omega))
      · exact Or.inr (Or.inr (Or.inl ⟨mode, by omega, by omega⟩))
    · have ln : 1 + (dv_en n).length ≤ n := by
        rw [dv_en_len]
        split <;> omega
      exact ok _ _ _ pt pl (Or.inr (Or.inr ⟨op, ho, t1, t2, rfl, rfl, ln⟩)) hP' (by omega) (lap _ (by rw [List.length_cons, dv_en_len]; split <;> omega))
  unfold wpX_emitInstruction
  have j11 : kind = 2 ∨ kind = 3 ∨ (kind = 1 ∧ 17 < n) → wX_emitInstruction_11 post (nI kind) (nI n) (nI mode) xq0 xq1 xq2 xq3 xq4 xq5 xq6 xtl xdl xnc xsc (nI (dv_sz N S)) xni xwl xsf xsl xss xws xwn xpn (nI le) (nI la) xbk xbz xba xbg xst xln xok xoo xpz xfh xsh xne xsm xwb xwk xwo xcu xsp xsa xpv xch xpt xpl := by
    intro hd
    unfold wX_emitInstruction_11
    refine pk_eq kind 3 (fun z => ?_) (fun z => ind (by omega))
    refine br_f (nI_nlt (b := 4) (by omega) (by omega)) (pk_lt 18 n (fun lt => ind (by omega)) (fun ge => dir (by omega)))
  exact pk_eq kind 1 (fun z => pk_le n 17 (fun le => dir (by omega)) (fun gt => j11 (by omega))) (fun z => j11 (by omega))
end
end
section
/-! X: the search -/
def dv_BS (Sp : List Nat) (q : Nat) (bk bz ba : Int32) : Prop :=
  bk = 0 ∨ (bk = 2 ∧ ∃ m, bz = nI m ∧ 4 ≤ m ∧ q + m ≤ Sp.length ∧ ∀ i, i < m → dv_gl Sp (q + i) = dv_gl Sp q) ∨
  (bk = 3 ∧ ∃ m a, bz = nI m ∧ ba = nI a ∧ a < q ∧ 4 ≤ m ∧ q + m ≤ Sp.length ∧ ∀ i, i < m → dv_gl Sp (a + i) = dv_gl Sp (q + i))
section
variable {xq0 xq1 xq2 xq3 xq4 xq5 xq6 xtl xdl xnc xsc xts xni xwl xsf xsl xss xws xwn xpn xle xla xbk xbz xba xbg : Int32} {xst xln xok xoo xpz xfh xsh xne xsm xwb xwk xwo xcu xsp xsa xpv xch xpt xpl : Nat → Int32}
variable {N S : Nat} {K : dv_KT} {Sp : List Nat}
theorem dx_mrun {post : Int32 → Prop} {q : Nat} (hn : Sp.length ≤ 256) (hs : dv_Seg xsa 0 Sp) (hq : q < Sp.length)
    (ok : ∀ m, q + m ≤ Sp.length → (∀ i, i < m → dv_gl Sp (q + i) = dv_gl Sp q) → post (nI m)) : wpX_matchingRun post (xq0, xq1, xq2, xq3, xq4, xq5, xq6, xtl, xdl, xnc, xsc, xts, xni, xwl, xsf, xsl, xss, xws, xwn, nI Sp.length, xle, xla, xbk, xbz, xba, xbg, xst, xln, xok, xoo, xpz, xfh, xsh, xne, xsm, xwb, xwk, xwo, xcu, xsp, xsa, xpv, xch, xpt, xpl) (nI q) := by
  have rd : ∀ j, j < Sp.length → xsa j = nI (dv_gl Sp j) ∧ dv_gl Sp j < 256 := fun j hj => by
    have := hs j hj
    rw [Nat.zero_add] at this
    exact this
  have loop : ∀ k f c : Nat, q + c + k = Sp.length → k < f → (∀ i, i < c → dv_gl Sp (q + i) = dv_gl Sp q) → wX_matchingRun_4 post (nI q) xq0 xq1 xq2 xq3 xq4 xq5 xq6 xtl xdl xnc xsc xts xni xwl xsf xsl xss xws xwn (nI Sp.length) xle xla xbk xbz xba xbg xst xln xok xoo xpz xfh xsh xne xsm xwb xwk xwo xcu xsp xsa xpv xch xpt xpl f (nI c) (nI (q + c)) := by
    intro k
    induction k with
    | zero =>
      intro f c hc hf hp
      obtain ⟨f, rfl⟩ : ∃ m, f = m + 1 := ⟨f - 1, by omega⟩
      exact br_t (nI_le (by omega) (by omega)) (ok c (by omega) hp)
    | succ k ih =>
      intro f c hc hf hp
      obtain ⟨f, rfl⟩ : ∃ m, f = m + 1 := ⟨f - 1, by omega⟩
      obtain ⟨a1, a2⟩ := rd (q + c) (by omega)
      obtain ⟨b1, b2⟩ := rd q hq
      refine br_f (nI_ge (by omega) (by omega)) ?_
      rw [nI_clamp (by omega), nI_clamp (by omega)]
      refine ⟨vp_in_nI (by omega) (by omega), vp_in_nI (by omega) (by omega), pk_eq (dv_gl Sp (q + c)) (dv_gl Sp q) (fun z => nm_r (nI_1 c) (nm_r (nI_1 (q + c)) ?_)) (fun z => ok c (by omega) hp) a1 b1⟩
      refine ih f (c + 1) (by omega) (by omega) fun i hi => ?_
      by_cases y : i = c
      · rw [y]; exact z
      · exact hp i (by omega)
  unfold wpX_matchingRun
  exact ⟨Sp.length + 1, loop (Sp.length - q) _ 0 (by omega) (by omega) fun i hi => absurd hi (Nat.not_lt_zero i)⟩
theorem dx_mbyt {post : Int32 → Prop} {a q : Nat} (hn : Sp.length ≤ 256) (hs : dv_Seg xsa 0 Sp) (ha : a < q) (hq : q ≤ Sp.length)
    (ok : ∀ m, q + m ≤ Sp.length → (∀ i, i < m → dv_gl Sp (a + i) = dv_gl Sp (q + i)) → post (nI m)) : wpX_matchingBytes post (xq0, xq1, xq2, xq3, xq4, xq5, xq6, xtl, xdl, xnc, xsc, xts, xni, xwl, xsf, xsl, xss, xws, xwn, nI Sp.length, xle, xla, xbk, xbz, xba, xbg, xst, xln, xok, xoo, xpz, xfh, xsh, xne, xsm, xwb, xwk, xwo, xcu, xsp, xsa, xpv, xch, xpt, xpl) (nI a) (nI q) := by
  have rd : ∀ j, j < Sp.length → xsa j = nI (dv_gl Sp j) ∧ dv_gl Sp j < 256 := fun j hj => by
    have := hs j hj
    rw [Nat.zero_add] at this
    exact this
  have loop : ∀ k f c : Nat, q + c + k = Sp.length → k < f → (∀ i, i < c → dv_gl Sp (a + i) = dv_gl Sp (q + i)) → wX_matchingBytes_5 post (nI a) xq0 xq1 xq2 xq3 xq4 xq5 xq6 xtl xdl xnc xsc xts xni xwl xsf xsl xss xws xwn (nI Sp.length) xle xla xbk xbz xba xbg xst xln xok xoo xpz xfh xsh xne xsm xwb xwk xwo xcu xsp xsa xpv xch xpt xpl f (nI c) (nI (q + c)) := by
    intro k
    induction k with
    | zero =>
      intro f c hc hf hp
      obtain ⟨f, rfl⟩ : ∃ m, f = m + 1 := ⟨f - 1, by omega⟩
      exact br_t (nI_le (by omega) (by omega)) (ok c (by omega) hp)
    | succ k ih =>
      intro f c hc hf hp
      obtain ⟨f, rfl⟩ : ∃ m, f = m + 1 := ⟨f - 1, by omega⟩
      obtain ⟨a1, a2⟩ := rd (q + c) (by omega)
      obtain ⟨b1, b2⟩ := rd (a + c) (by omega)
      refine br_f (nI_ge (by omega) (by omega)) ?_
      rw [nI_add a c, nI_clamp (by omega), nI_clamp (by omega)]
      refine ⟨vp_in_nI (by omega) (by omega), vp_in_nI (by omega) (by omega), pk_eq (dv_gl Sp (q + c)) (dv_gl Sp (a + c)) (fun z => nm_r (nI_1 c) (nm_r (nI_1 (q + c)) ?_)) (fun z => ok c (by omega) hp) a1 b1⟩
      refine ih f (c + 1) (by omega) (by omega) fun i hi => ?_
      by_cases y : i = c
      · rw [y]; exact z.symm
      · exact hp i (by omega)
  unfold wpX_matchingBytes
  exact ⟨Sp.length + 1, loop (Sp.length - q) _ 0 (by omega) (by omega) fun i hi => absurd hi (Nat.not_lt_zero i)⟩
theorem dx_cm23 {post : Int32 → Prop} {a : Nat} (hN : N ≤ 4) (hS : S ≤ 3) (ha : a < 256) (hK : dv_CX N S K xni xne xsm) (ok : ∀ mode, dv_MD N S K a mode → post (nI mode)) :
    ∀ (k f i mode v : Nat), i + k = N → k < f → dv_MD N S K a mode → v ≤ 256 → wX_cheapestMode_23 post (nI a) xq0 xq1 xq2 xq3 xq4 xq5 xq6 xtl xdl (nI N) (nI (16 * S)) xts xni xwl xsf xsl xss xws xwn xpn xle xla xbk xbz xba xbg xst xln xok xoo xpz xfh xsh xne xsm xwb xwk xwo xcu xsp xsa xpv xch xpt xpl f (nI mode) (nI v) (nI i) := by
  obtain ⟨c1, c2, c3⟩ := hK
  intro k
  induction k with
  | zero =>
    intro f i mode v hi hf hm hv
    obtain ⟨f, rfl⟩ : ∃ m, f = m + 1 := ⟨f - 1, by omega⟩
    refine br_t (nI_le (by omega) (by omega)) (pk_le (16 * S) 0 (fun _ => ok mode hm) (fun s0 => pk_lt v 128 (fun _ => ok mode hm) (fun v128 => ⟨nI_ne0 (by omega) (by omega), ?_⟩)))
    have hl : a % (16 * S) < 16 * S := Nat.mod_lt _ (by omega)
    obtain ⟨k1, k2⟩ := c3 _ hl
    refine nm_r (pk_rem (by omega) (by omega) (by omega)) ⟨vp_in_nI (by omega) (by omega), pk_eq (K.2.1 (a % (16 * S))) a (fun z => ⟨by decide, nm_r (e' := nI (N + 2 + a % (16 * S) / 16)) ?_ (ok _ (Or.inr (Or.inr (Or.inr ⟨by omega, rfl, z⟩))))⟩) (fun _ => ok mode hm) (by rw [nI_clamp (by omega), k1])⟩
    rw [show (16 : Int32) = nI 16 from rfl, pk_div (by omega) (by omega) (by omega), show nI N + 2 = nI (N + 2) from nI_add N 2, nI_add]
  | succ k ih =>
    intro f i mode v hi hf hm hv
    obtain ⟨f, rfl⟩ : ∃ m, f = m + 1 := ⟨f - 1, by omega⟩
    obtain ⟨k1, k2⟩ := c2 i (by omega)
    refine br_f (nI_ge (by omega) (by omega)) ⟨vp_in_nI (by omega) (by omega), ?_⟩
    rw [nI_clamp (by omega), k1]
    by_cases z : K.1 i ≤ a
    · refine nm_r (pk_sub z) (br_f (nI_pos (by omega)) (pk_le v (a - K.1 i) (fun _ => nm_r (nI_1 i) (ih f (i + 1) mode v (by omega) (by omega) hm hv)) (fun lt => ?_)))
      refine nm_r (e' := nI (2 + i)) (nI_add 2 i) (nm_r (nI_1 i) (ih f (i + 1) (2 + i) (a - K.1 i) (by omega) (by omega) ?_ (by omega)))
      exact Or.inr (Or.inr (Or.inl ⟨by omega, by omega, by rw [show 2 + i - 2 = i by omega]; exact z⟩))
    · exact nm_e (br_t (pk_sneg (by omega) (by omega)) (nm_r (nI_1 i) (ih f (i + 1) mode v (by omega) (by omega) hm hv)))
theorem dx_cm {post : Int32 → Prop} {a q : Nat} (hN : N ≤ 4) (hS : S ≤ 3) (ha : a < q) (hq : q ≤ 256) (hK : dv_CX N S K xni xne xsm) (ok : ∀ mode, dv_MD N S K a mode → post (nI mode)) :
    wpX_cheapestMode post (xq0, xq1, xq2, xq3, xq4, xq5, xq6, xtl, xdl, nI N, nI (16 * S), xts, xni, xwl, xsf, xsl, xss, xws, xwn, xpn, xle, xla, xbk, xbz, xba, xbg, xst, xln, xok, xoo, xpz, xfh, xsh, xne, xsm, xwb, xwk, xwo, xcu, xsp, xsa, xpv, xch, xpt, xpl) (nI a) (nI q) := by
  unfold wpX_cheapestMode
  refine pk_le a (q - a) (fun _ => ⟨N + 1, ?_⟩) (fun _ => nm_r (e' := nI (q - a)) (pk_sub (by omega)) ⟨N + 1, ?_⟩) rfl (pk_sub (by omega))
  · exact dx_cm23 hN hS (by omega) hK ok N (N + 1) 0 0 a (by omega) (by omega) (Or.inl rfl) (by omega)
  · exact dx_cm23 hN hS (by omega) hK ok N (N + 1) 0 1 (q - a) (by omega) (by omega) (Or.inr (Or.inl rfl)) (by omega)
theorem dx_ac {post : Int32 → Prop} {a q mode : Nat} (hN : N ≤ 4) (hS : S ≤ 3) (ha : a < q) (hq : q ≤ 256) (hK : dv_CX N S K xni xne xsm) (hm : dv_MD N S K a mode) (ok : post (nI (dv_cd N S K a q mode))) :
    wpX_addressCode post (xq0, xq1, xq2, xq3, xq4, xq5, xq6, xtl, xdl, nI N, nI (16 * S), xts, xni, xwl, xsf, xsl, xss, xws, xwn, xpn, xle, xla, xbk, xbz, xba, xbg, xst, xln, xok, xoo, xpz, xfh, xsh, xne, xsm, xwb, xwk, xwo, xcu, xsp, xsa, xpv, xch, xpt, xpl) (nI mode) (nI a) (nI q) := by
  obtain ⟨c1, c2, c3⟩ := hK
  have hl := dv_MD_lt hm
  unfold wpX_addressCode
  unfold dv_cd at ok
  refine pk_eq mode 0 (fun z => ?_) (fun z => pk_eq mode 1 (fun y => ?_) (fun y => pk_le (N + 2) mode (fun ge => ?_) (fun lt => ?_) (nI_add N 2)))
  · rw [if_pos z] at ok; exact ok
  · rw [if_neg z, if_pos y] at ok
    rw [pk_sub (by omega)]; exact ok
  · rw [if_neg z, if_neg y, if_neg (by omega)] at ok
    refine br_f (nI_ge (a := 0) (by omega) (by omega)) ⟨nI_ne0 (by omega) (by omega), by decide, ?_⟩
    rw [pk_rem (by omega) (by omega) (by omega), show (16 : Int32) = nI 16 from rfl, pk_rem (Nat.lt_trans (Nat.mod_lt _ (by omega)) (by omega : 16 * S < 2 ^ 31)) (by omega) (by omega)]
    exact ok
  · rw [if_neg z, if_neg y, if_pos lt] at ok
    rcases hm with h | h | ⟨h1, h2, h3⟩ | ⟨h1, h2, h3⟩
    · exact absurd h z
    · exact absurd h y
    · obtain ⟨k1, k2⟩ := c2 (mode - 2) (by omega)
      rw [show nI mode - 2 = nI (mode - 2) from pk_sub (a := mode) (b := 2) (by omega), nI_clamp (by omega), k1, pk_sub h3]
      exact ⟨vp_in_nI (by omega) (by omega), ok⟩
    · omega
theorem dx_wc {post : SX → Prop} {a q : Nat} (hN : N ≤ 4) (hS : S ≤ 3) (hn : Sp.length ≤ 256) (hs : dv_Seg xsa 0 Sp) (ha : a < q) (hq : q ≤ Sp.length) (hK : dv_CX N S K xni xne xsm) (hB : dv_BS Sp q xbk xbz xba)
    (ok : ∀ bk bz ba bg, dv_BS Sp q bk bz ba → post (xq0, xq1, xq2, xq3, xq4, xq5, xq6, xtl, xdl, nI N, nI (16 * S), xts, xni, xwl, xsf, xsl, xss, xws, xwn, nI Sp.length, xle, xla, bk, bz, ba, bg, xst, xln, xok, xoo, xpz, xfh, xsh, xne, xsm, xwb, xwk, xwo, xcu, xsp, xsa, xpv, xch, xpt, xpl)) :
    wpX_weighCopy post (xq0, xq1, xq2, xq3, xq4, xq5, xq6, xtl, xdl, nI N, nI (16 * S), xts, xni, xwl, xsf, xsl, xss, xws, xwn, nI Sp.length, xle, xla, xbk, xbz, xba, xbg, xst, xln, xok, xoo, xpz, xfh, xsh, xne, xsm, xwb, xwk, xwo, xcu, xsp, xsa, xpv, xch, xpt, xpl) (nI a) (nI q) := by
  unfold wpX_weighCopy
  refine dx_mbyt hn hs ha hq fun m hm1 hm2 => ?_
  refine pk_le 4 m (fun h4 => ?_) (fun _ => ok _ _ _ _ hB)
  refine dx_cm hN hS ha (by omega) hK fun mode hmd => dx_ac hN hS ha (by omega) hK hmd ?_
  have fin : ∀ x6 : Int32, wX_weighCopy_52 post (nI a) (nI m) x6 xq0 xq1 xq2 xq3 xq4 xq5 xq6 xtl xdl (nI N) (nI (16 * S)) xts xni xwl xsf xsl xss xws xwn (nI Sp.length) xle xla xbk xbz xba xbg xst xln xok xoo xpz xfh xsh xne xsm xwb xwk xwo xcu xsp xsa xpv xch xpt xpl := by
    intro x6
    unfold wX_weighCopy_52
    exact br_c (fun _ => ok _ _ _ _ hB) (fun _ => ok _ _ _ _ (Or.inr (Or.inr ⟨rfl, m, a, rfl, rfl, ha, h4, hm1, hm2⟩)))
  have il : ∀ r : Int32, ∀ x6_186 : Int32, x6_186 = nI m - 1 - r → ((nI m ≤ 18 → wX_weighCopy_52 post (nI a) (nI m) x6_186 xq0 xq1 xq2 xq3 xq4 xq5 xq6 xtl xdl (nI N) (nI (16 * S)) xts xni xwl xsf xsl xss xws xwn (nI Sp.length) xle xla xbk xbz xba xbg xst xln xok xoo xpz xfh xsh xne xsm xwb xwk xwo xcu xsp xsa xpv xch xpt xpl) ∧ (¬ nI m ≤ 18 → ∀ x6_189 : Int32, x6_189 = x6_186 + (-1) → wX_weighCopy_52 post (nI a) (nI m) x6_189 xq0 xq1 xq2 xq3 xq4 xq5 xq6 xtl xdl (nI N) (nI (16 * S)) xts xni xwl xsf xsl xss xws xwn (nI Sp.length) xle xla xbk xbz xba xbg xst xln xok xoo xpz xfh xsh xne xsm xwb xwk xwo xcu xsp xsa xpv xch xpt xpl)) :=
    fun r x _ => br_c (fun _ => fin _) (fun _ y _ => fin y)
  unfold wpX_integerLength
  exact br_c (fun _ => br_c (fun _ => il _) (fun _ => il _)) (fun _ => il _)
theorem dx_w69 {post : SX → Prop} {q : Nat} (hN : N ≤ 4) (hS : S ≤ 3) (hn : Sp.length ≤ 256) (hs : dv_Seg xsa 0 Sp) (hq : q + 4 ≤ Sp.length) (hK : dv_CX N S K xni xne xsm)
    (hV : ∀ i, i + 4 ≤ Sp.length → xpv i = -1 ∨ ∃ j, j < i ∧ xpv i = nI j)
    (ok : ∀ bk bz ba bg, dv_BS Sp q bk bz ba → post (xq0, xq1, xq2, xq3, xq4, xq5, xq6, xtl, xdl, nI N, nI (16 * S), xts, xni, xwl, xsf, xsl, xss, xws, xwn, nI Sp.length, xle, xla, bk, bz, ba, bg, xst, xln, xok, xoo, xpz, xfh, xsh, xne, xsm, xwb, xwk, xwo, xcu, xsp, xsa, xpv, xch, xpt, xpl)) :
    ∀ (m f t : Nat) (c xbk xbz xba xbg : Int32), (c = -1 ∨ ∃ j, j < m ∧ j < q ∧ c = nI j) → m < f → t + m ≤ 256 → dv_BS Sp q xbk xbz xba → wX_weigh_69 post (nI q) f c (nI t) xq0 xq1 xq2 xq3 xq4 xq5 xq6 xtl xdl (nI N) (nI (16 * S)) xts xni xwl xsf xsl xss xws xwn (nI Sp.length) xle xla xbk xbz xba xbg xst xln xok xoo xpz xfh xsh xne xsm xwb xwk xwo xcu xsp xsa xpv xch xpt xpl := by
  intro m
  induction m with
  | zero =>
    intro f t c xbk xbz xba xbg hc hf ht hB
    obtain ⟨f, rfl⟩ : ∃ m, f = m + 1 := ⟨f - 1, by omega⟩
    rcases hc with rfl | ⟨j, hj, _⟩
    · exact br_c (fun _ => ok _ _ _ _ hB) (fun _ => br_t (by decide) (ok _ _ _ _ hB))
    · omega
  | succ m ih =>
    intro f t c xbk xbz xba xbg hc hf ht hB
    obtain ⟨f, rfl⟩ : ∃ m, f = m + 1 := ⟨f - 1, by omega⟩
    rcases hc with rfl | ⟨j, hj, hjq, rfl⟩
    · exact br_c (fun _ => ok _ _ _ _ hB) (fun _ => br_t (by decide) (ok _ _ _ _ hB))
    · refine br_f (nI_ge (b := 256) (by omega) (by omega)) (br_f (nI_pos (by omega)) (dx_wc hN hS hn hs hjq (by omega) hK hB fun bk bz ba bg hB' => ⟨vp_in_nI (by omega) (by omega), ?_⟩))
      refine nm_e (nm_r (nI_1 t) (ih f (t + 1) _ bk bz ba bg ?_ (by omega) (by omega) hB'))
      rw [nI_clamp (by omega)]
      rcases hV j (by omega) with h | ⟨i, hi, h⟩
      · exact Or.inl h
      · exact Or.inr ⟨i, by omega, by omega, h⟩
theorem dx_weigh {post : SX → Prop} {q : Nat} (hN : N ≤ 4) (hS : S ≤ 3) (hn : Sp.length ≤ 256) (hs : dv_Seg xsa 0 Sp) (hq : q ≤ Sp.length) (hK : dv_CX N S K xni xne xsm)
    (hV : ∀ i, i + 4 ≤ Sp.length → xpv i = -1 ∨ ∃ j, j < i ∧ xpv i = nI j)
    (ok : ∀ bk bz ba bg, dv_BS Sp q bk bz ba → post (xq0, xq1, xq2, xq3, xq4, xq5, xq6, xtl, xdl, nI N, nI (16 * S), xts, xni, xwl, xsf, xsl, xss, xws, xwn, nI Sp.length, xle, xla, bk, bz, ba, bg, xst, xln, xok, xoo, xpz, xfh, xsh, xne, xsm, xwb, xwk, xwo, xcu, xsp, xsa, xpv, xch, xpt, xpl)) :
    wpX_weigh post (xq0, xq1, xq2, xq3, xq4, xq5, xq6, xtl, xdl, nI N, nI (16 * S), xts, xni, xwl, xsf, xsl, xss, xws, xwn, nI Sp.length, xle, xla, xbk, xbz, xba, xbg, xst, xln, xok, xoo, xpz, xfh, xsh, xne, xsm, xwb, xwk, xwo, xcu, xsp, xsa, xpv, xch, xpt, xpl) (nI q) := by
  unfold wpX_weigh
  refine pk_le (q + 4) Sp.length (fun le => ?_) (fun _ => ok _ _ _ _ (Or.inl rfl)) (nI_add q 4)
  have pv : xpv q = -1 ∨ ∃ j, j < q ∧ j < q ∧ xpv q = nI j := by
    rcases hV q le with h | ⟨j, hj, h⟩
    · exact Or.inl h
    · exact Or.inr ⟨j, hj, hj, h⟩
  refine dx_mrun hn hs (by omega) fun m hm1 hm2 => pk_lt m 4 (fun _ => ?_) (fun h4 => ?_)
  · refine ⟨vp_in_nI (by omega) (by omega), nm_r (e' := xpv q) (by rw [nI_clamp (by omega)]) ⟨q + 1, ?_⟩⟩
    exact dx_w69 hN hS hn hs le hK hV ok q (q + 1) 0 _ _ _ _ _ pv (by omega) (by omega) (Or.inl rfl)
  · refine nm_e ⟨vp_in_nI (by omega) (by omega), nm_r (e' := xpv q) (by rw [nI_clamp (by omega)]) ⟨q + 1, ?_⟩⟩
    exact dx_w69 hN hS hn hs le hK hV ok q (q + 1) 0 _ _ _ _ _ pv (by omega) (by omega) (Or.inr (Or.inl ⟨rfl, m, rfl, h4, hm1, hm2⟩))
end
end
section
/-! X: emitting, the parse of the target -/
def dv_sl (Sp : List Nat) : Nat → Nat → List Nat
  | _, 0 => []
  | i, m + 1 => dv_gl Sp i :: dv_sl Sp (i + 1) m
theorem dv_sl_len {Sp : List Nat} : ∀ (m i : Nat), (dv_sl Sp i m).length = m
  | 0, i => rfl
  | m + 1, i => by show (dv_sl Sp (i + 1) m).length + 1 = m + 1; rw [dv_sl_len]
theorem dv_sl_gl {Sp : List Nat} : ∀ (m i k : Nat), k < m → dv_gl (dv_sl Sp i m) k = dv_gl Sp (i + k)
  | 0, i, k, h => absurd h (Nat.not_lt_zero k)
  | m + 1, i, 0, h => rfl
  | m + 1, i, k + 1, h => by
    show dv_gl (dv_sl Sp (i + 1) m) k = _
    rw [dv_sl_gl m (i + 1) k (by omega), show i + 1 + k = i + (k + 1) by omega]
def dv_ES (N S : Nat) (Q T : List Nat) (pp : Nat → List Nat) (w : Nat) (K : dv_KT) (le la : Nat) (ni : Int32) (ne sm pt pl : Nat → Int32) : Prop :=
  dv_EI N S Q T pp w K le la ∧ le < 2048 ∧ dv_TY pp pt pl ∧ dv_CX N S K ni ne sm
theorem dv_LS_h {N S : Nat} {Q T : List Nat} {pp : Nat → List Nat} {w : Nat} {K : dv_KT} {le la : Nat} (h : dv_LS N S Q T pp w K le la) : dv_LH pp le la := by
  rcases h with h | ⟨m, D0, C0, A0, x, dl, al, w0, K0, f1, f2, f3⟩
  · exact Or.inl h
  · exact Or.inr ⟨C0, x, f1, f2⟩
theorem dv_EI_l {N S : Nat} {Q T : List Nat} {pp : Nat → List Nat} {w : Nat} {K : dv_KT} {le la : Nat} (h : dv_EI N S Q T pp w K le la) (hw : w ≤ 128) : ∀ q, q < 4 → (pp q).length ≤ 128 := by
  obtain ⟨p0, ⟨l1, l2, l3⟩, _⟩ := h
  intro q hq
  have : q = 0 ∨ q = 1 ∨ q = 2 ∨ q = 3 := by omega
  rcases this with rfl | rfl | rfl | rfl
  · rw [p0]; exact Nat.zero_le _
  · omega
  · omega
  · omega
section
variable {xq0 xq1 xq2 xq3 xq4 xq5 xq6 xtl xdl xnc xsc xts xni xwl xsf xsl xss xws xwn xpn xle xla xbk xbz xba xbg : Int32} {xst xln xok xoo xpz xfh xsh xne xsm xwb xwk xwo xcu xsp xsa xpv xch xpt xpl : Nat → Int32}
variable {N S : Nat} {Q T : List Nat} {K : dv_KT}
theorem dx_ea17 {post : SX → Prop} {q : Nat} {Sp : List Nat} (hn : Sp.length ≤ 256) (hs : dv_Seg xsa 0 Sp) (hq : q ≤ Sp.length) :
    ∀ (m f i : Nat) (pp : Nat → List Nat) (xpt xpl : Nat → Int32), i + m = q → m < f → (pp 1).length + m ≤ 256 → (∀ r, r < 4 → (pp r).length ≤ 256) → dv_TY pp xpt xpl →
    (∀ pt pl, dv_TY (dv_ap pp 1 (dv_sl Sp i m)) pt pl → post (xq0, xq1, xq2, xq3, xq4, xq5, xq6, xtl, xdl, xnc, xsc, xts, xni, xwl, xsf, xsl, xss, xws, xwn, xpn, xle, xla, xbk, xbz, xba, xbg, xst, xln, xok, xoo, xpz, xfh, xsh, xne, xsm, xwb, xwk, xwo, xcu, xsp, xsa, xpv, xch, pt, pl)) → wX_emitAdd_17 post (nI q) f (nI i) xq0 xq1 xq2 xq3 xq4 xq5 xq6 xtl xdl xnc xsc xts xni xwl xsf xsl xss xws xwn xpn xle xla xbk xbz xba xbg xst xln xok xoo xpz xfh xsh xne xsm xwb xwk xwo xcu xsp xsa xpv xch xpt xpl := by
  intro m
  induction m with
  | zero =>
    intro f i pp xpt xpl hi hf hl hall hP ok
    obtain ⟨f, rfl⟩ : ∃ m, f = m + 1 := ⟨f - 1, by omega⟩
    refine br_t (nI_le (by omega) (by omega)) (ok _ _ ?_)
    show dv_TY (dv_ap pp 1 []) xpt xpl
    rw [dv_ap_nil]
    exact hP
  | succ m ih =>
    intro f i pp xpt xpl hi hf hl hall hP ok
    obtain ⟨f, rfl⟩ : ∃ m, f = m + 1 := ⟨f - 1, by omega⟩
    obtain ⟨s1, s2⟩ := hs i (by omega)
    rw [Nat.zero_add] at s1
    refine br_f (nI_ge (by omega) (by omega)) ⟨vp_in_nI (by omega) (by omega), ?_⟩
    rw [nI_clamp (by omega), s1]
    refine dx_put (r := 1) (b := dv_gl Sp i) (by omega) hP (by omega) hall (dv_m255 s2) s2 fun pt pl hP' => nm_r (nI_1 i) (ih f (i + 1) (dv_ap pp 1 [dv_gl Sp i]) pt pl (by omega) (by omega) ?_ ?_ hP' fun pt2 pl2 hP2 => ok pt2 pl2 ?_)
    · rw [dv_ap_s, List.length_append, List.length_singleton]; omega
    · intro r hr
      by_cases z : r = 1
      · rw [z, dv_ap_s, List.length_append, List.length_singleton]; omega
      · rw [dv_ap_n z]; exact hall r hr
    · rw [dv_ap_ap] at hP2
      exact hP2
theorem dv_spT {j : Nat} : dv_gl (Q ++ T) (Q.length + j) = dv_gl T j := dv_gl_r Q j
theorem dx_ea {post : SX → Prop} {pp : Nat → List Nat} {w n le la : Nat} (hN : N ≤ 4) (hS : S ≤ 3) (hT : dv_TB N S xfh xsh) (hQ : Q.length ≤ 128) (hTl : T.length ≤ 128) (hs : dv_Seg xsa 0 (Q ++ T)) (hw : w + n ≤ T.length)
    (E : dv_ES N S Q T pp w K le la xni xne xsm xpt xpl)
    (ok : ∀ pp' le' la' pt pl, dv_ES N S Q T pp' (w + n) K le' la' xni xne xsm pt pl → post (xq0, xq1, xq2, xq3, xq4, xq5, xq6, xtl, xdl, xnc, xsc, nI (dv_sz N S), xni, xwl, xsf, xsl, xss, xws, xwn, xpn, nI le', nI la', xbk, xbz, xba, xbg, xst, xln, xok, xoo, xpz, xfh, xsh, xne, xsm, xwb, xwk, xwo, xcu, xsp, xsa, xpv, xch, pt, pl)) :
    wpX_emitAdd post (xq0, xq1, xq2, xq3, xq4, xq5, xq6, xtl, xdl, xnc, xsc, nI (dv_sz N S), xni, xwl, xsf, xsl, xss, xws, xwn, xpn, nI le, nI la, xbk, xbz, xba, xbg, xst, xln, xok, xoo, xpz, xfh, xsh, xne, xsm, xwb, xwk, xwo, xcu, xsp, xsa, xpv, xch, xpt, xpl) (nI (Q.length + w)) (nI (Q.length + w + n)) := by
  obtain ⟨E1, E2, E3, E4⟩ := id E
  have hl := dv_EI_l E1 (by omega)
  have hsp : (Q ++ T).length = Q.length + T.length := List.length_append
  unfold wpX_emitAdd
  refine pk_lt (Q.length + w) (Q.length + w + n) (fun lt => ?_) (fun ge => ?_)
  · rw [pk_sub (by omega), show Q.length + w + n - (Q.length + w) = n by omega]
    refine dx_em (kind := 1) (mode := 0) hN hS hT E3 hl (Or.inl ⟨rfl, rfl, by omega⟩) (by omega) E2 (dv_LS_h E1.2.2.2) fun pp' le' la' pt pl hE hP' hle' hlen => ⟨n + 1, ?_⟩
    have h1 := hlen 1 (by omega)
    have l1 := hl 1 (by omega)
    have dl := dv_sl_len (Sp := Q ++ T) n (Q.length + w)
    refine dx_ea17 (by omega) hs (by omega) n (n + 1) (Q.length + w) pp' pt pl (by omega) (by omega) ?_ (fun r hr => ?_) hP' fun pt2 pl2 hP2 => ok _ le' la' pt2 pl2 ⟨?_, hle', hP2, E4⟩
    · have e1 : (pp' 1).length = (pp 1).length := by
        rcases hE with ⟨op, x, C0, _, _, _, _, _, _, _, e8, _⟩ | ⟨op, _, _, _, _, e8, _⟩ | ⟨op, _, _, _, e8, _⟩
        · rw [e8, dv_up_n (by omega)]
        · rw [e8, dv_ap_n (by omega)]
        · rw [e8, dv_ap_n (by omega)]
      omega
    · have := hlen r hr
      have := hl r hr
      omega
    · have hB : dv_BO N S Q T 1 0 n (dv_sl (Q ++ T) (Q.length + w) n) [] w K (w + n) K := dv_BO_add dl hw fun i hi => by
        rw [dv_sl_gl n _ i hi, Nat.add_assoc, dv_spT]
      have := dv_EI_s E1 hB hE (by omega) (by omega) (by omega) (by omega) (by omega) (Nat.zero_le _)
      rw [dv_ap_nil] at this
      exact this
  · have : n = 0 := by omega
    subst this
    exact ok pp le la _ _ E
theorem dx_er {post : SX → Prop} {pp : Nat → List Nat} {w n le la : Nat} (hN : N ≤ 4) (hS : S ≤ 3) (hT : dv_TB N S xfh xsh) (hQ : Q.length ≤ 128) (hTl : T.length ≤ 128) (hs : dv_Seg xsa 0 (Q ++ T)) (hw : w + n ≤ T.length) (h4 : 4 ≤ n)
    (hr : ∀ i, i < n → dv_gl (Q ++ T) (Q.length + w + i) = dv_gl (Q ++ T) (Q.length + w))
    (E : dv_ES N S Q T pp w K le la xni xne xsm xpt xpl)
    (ok : ∀ pp' le' la' pt pl, dv_ES N S Q T pp' (w + n) K le' la' xni xne xsm pt pl → post (xq0, xq1, xq2, xq3, xq4, xq5, xq6, xtl, xdl, xnc, xsc, nI (dv_sz N S), xni, xwl, xsf, xsl, xss, xws, xwn, xpn, nI le', nI la', xbk, xbz, xba, xbg, xst, xln, xok, xoo, xpz, xfh, xsh, xne, xsm, xwb, xwk, xwo, xcu, xsp, xsa, xpv, xch, pt, pl)) :
    wpX_emitRun post (xq0, xq1, xq2, xq3, xq4, xq5, xq6, xtl, xdl, xnc, xsc, nI (dv_sz N S), xni, xwl, xsf, xsl, xss, xws, xwn, xpn, nI le, nI la, xbk, xbz, xba, xbg, xst, xln, xok, xoo, xpz, xfh, xsh, xne, xsm, xwb, xwk, xwo, xcu, xsp, xsa, xpv, xch, xpt, xpl) (nI (Q.length + w)) (nI n) := by
  obtain ⟨E1, E2, E3, E4⟩ := id E
  have hl := dv_EI_l E1 (by omega)
  have hsp : (Q ++ T).length = Q.length + T.length := List.length_append
  obtain ⟨s1, s2⟩ := hs (Q.length + w) (by omega)
  rw [Nat.zero_add] at s1
  unfold wpX_emitRun
  refine dx_em (kind := 2) (mode := 0) hN hS hT E3 hl (Or.inr (Or.inl ⟨rfl, rfl, h4⟩)) (by omega) E2 (dv_LS_h E1.2.2.2) fun pp' le' la' pt pl hE hP' hle' hlen => ⟨vp_in_nI (by omega) (by omega), ?_⟩
  rw [nI_clamp (by omega), s1]
  refine dx_put (r := 1) (b := dv_gl (Q ++ T) (Q.length + w)) (by omega) hP' ?_ (fun r hr => ?_) (dv_m255 s2) s2 fun pt2 pl2 hP2 => ok _ le' la' pt2 pl2 ⟨?_, hle', hP2, E4⟩
  · have := hlen 1 (by omega)
    have := hl 1 (by omega)
    omega
  · have := hlen r hr
    have := hl r hr
    omega
  · have hB : dv_BO N S Q T 2 0 n [dv_gl (Q ++ T) (Q.length + w)] [] w K (w + n) K := dv_BO_run hw fun i hi => by
      rw [← hr i hi, Nat.add_assoc, dv_spT]
    have := dv_EI_s E1 hB hE (by omega) (by omega) (by omega) (by omega) (by simp; omega) (Nat.zero_le _)
    rw [dv_ap_nil] at this
    exact this
theorem dx_ec {post : SX → Prop} {pp : Nat → List Nat} {w n a le la : Nat} (hN : N ≤ 4) (hS : S ≤ 3) (hT : dv_TB N S xfh xsh) (hQ : Q.length ≤ 128) (hTl : T.length ≤ 128) (hw : w + n ≤ T.length) (h4 : 4 ≤ n) (ha : a < Q.length + w)
    (hr : ∀ i, i < n → dv_gl (Q ++ T) (a + i) = dv_gl (Q ++ T) (Q.length + w + i))
    (E : dv_ES N S Q T pp w K le la xni xne xsm xpt xpl)
    (ok : ∀ pp' K' le' la' ni ne sm pt pl, dv_ES N S Q T pp' (w + n) K' le' la' ni ne sm pt pl → post (xq0, xq1, xq2, xq3, xq4, xq5, xq6, xtl, xdl, nI N, nI (16 * S), nI (dv_sz N S), ni, xwl, xsf, xsl, xss, xws, xwn, xpn, nI le', nI la', xbk, xbz, xba, xbg, xst, xln, xok, xoo, xpz, xfh, xsh, ne, sm, xwb, xwk, xwo, xcu, xsp, xsa, xpv, xch, pt, pl)) :
    wpX_emitCopy post (xq0, xq1, xq2, xq3, xq4, xq5, xq6, xtl, xdl, nI N, nI (16 * S), nI (dv_sz N S), xni, xwl, xsf, xsl, xss, xws, xwn, xpn, nI le, nI la, xbk, xbz, xba, xbg, xst, xln, xok, xoo, xpz, xfh, xsh, xne, xsm, xwb, xwk, xwo, xcu, xsp, xsa, xpv, xch, xpt, xpl) (nI (Q.length + w)) (nI n) (nI a) := by
  obtain ⟨E1, E2, E3, E4⟩ := id E
  have hl := dv_EI_l E1 (by omega)
  unfold wpX_emitCopy
  refine dx_cm hN hS ha (by omega) E4 fun mode hmd => dx_ac hN hS ha (by omega) E4 hmd ?_
  refine dx_em (kind := 3) hN hS hT E3 hl (Or.inr (Or.inr ⟨rfl, dv_MD_lt hmd, h4⟩)) (by omega) E2 (dv_LS_h E1.2.2.2) fun pp' le' la' pt pl hE hP' hle' hlen => ?_
  have hc := dv_cd_lt (N := N) (S := S) (K := K) (mode := mode) ha (by omega : Q.length + w ≤ 256)
  refine dx_putI (r := 3) (by omega) (by omega) hP' ?_ (fun r hr => ?_) fun pt2 pl2 hP2 => ?_
  · have := hlen 3 (by omega)
    have := hl 3 (by omega)
    omega
  · have := hlen r hr
    have := hl r hr
    omega
  · refine dx_lrn hN hS (by omega) E4 fun ni ne sm hK => ok _ (dv_lrn N S a K) le' la' ni ne sm pt2 pl2 ⟨?_, hle', hP2, hK⟩
    have hB : dv_BO N S Q T 3 mode n [] (dv_en (dv_cd N S K a (Q.length + w) mode)) w K (w + n) (dv_lrn N S a K) :=
      dv_BO_cpy hw ha (fun i hi => by rw [hr i hi, Nat.add_assoc, dv_spT]) fun A' => dv_cd_ok hmd ha (by omega)
    have := dv_EI_s E1 hB hE (by omega) (by omega) (by omega) (by omega) (Nat.zero_le _) (by rw [dv_en_len]; split <;> omega)
    rw [dv_ap_nil] at this
    exact this
theorem dx_et11 {post : SX → Prop} (hN : N ≤ 4) (hS : S ≤ 3) (hT : dv_TB N S xfh xsh) (hQ : Q.length ≤ 128) (hTl : T.length ≤ 128) (hs : dv_Seg xsa 0 (Q ++ T))
    (hV : ∀ i, i + 4 ≤ Q.length + T.length → xpv i = -1 ∨ ∃ j, j < i ∧ xpv i = nI j)
    (ok : ∀ pp K le la ni bk bz ba bg ne sm pt pl, dv_ES N S Q T pp T.length K le la ni ne sm pt pl → post (xq0, xq1, xq2, xq3, xq4, xq5, xq6, xtl, xdl, nI N, nI (16 * S), nI (dv_sz N S), ni, xwl, xsf, xsl, xss, xws, xwn, nI (Q.length + T.length), nI le, nI la, bk, bz, ba, bg, xst, xln, xok, xoo, xpz, xfh, xsh, ne, sm, xwb, xwk, xwo, xcu, xsp, xsa, xpv, xch, pt, pl)) :
    ∀ (m f t w d : Nat) (pp : Nat → List Nat) (K : dv_KT) (le la : Nat) (xni xbk xbz xba xbg : Int32) (xne xsm xpt xpl : Nat → Int32), T.length ≤ w + d + m → m < f → t ≤ w + d → w + d ≤ T.length →
    dv_ES N S Q T pp w K le la xni xne xsm xpt xpl →
    wX_encodeTarget_11 post f (nI (Q.length + w + d)) (nI (Q.length + w)) (nI t) xq0 xq1 xq2 xq3 xq4 xq5 xq6 xtl xdl (nI N) (nI (16 * S)) (nI (dv_sz N S)) xni xwl xsf xsl xss xws xwn (nI (Q.length + T.length)) (nI le) (nI la) xbk xbz xba xbg xst xln xok xoo xpz xfh xsh xne xsm xwb xwk xwo xcu xsp xsa xpv xch xpt xpl := by
  have hsp : (Q ++ T).length = Q.length + T.length := List.length_append
  have last : ∀ (w d : Nat) (pp : Nat → List Nat) (K : dv_KT) (le la : Nat) (xni xbk xbz xba xbg : Int32) (xne xsm xpt xpl : Nat → Int32), w + d = T.length → dv_ES N S Q T pp w K le la xni xne xsm xpt xpl →
      wX_encodeTarget_136 post (nI (Q.length + w)) xq0 xq1 xq2 xq3 xq4 xq5 xq6 xtl xdl (nI N) (nI (16 * S)) (nI (dv_sz N S)) xni xwl xsf xsl xss xws xwn (nI (Q.length + T.length)) (nI le) (nI la) xbk xbz xba xbg xst xln xok xoo xpz xfh xsh xne xsm xwb xwk xwo xcu xsp xsa xpv xch xpt xpl := by
    intro w d pp K le la xni xbk xbz xba xbg xne xsm xpt xpl hd E
    unfold wX_encodeTarget_136
    have e : Q.length + T.length = Q.length + w + d := by omega
    have := dx_ea (post := fun u => match u with | (xq0, xq1, xq2, xq3, xq4, xq5, xq6, xtl, xdl, xnc, xsc, xts, xni, xwl, xsf, xsl, xss, xws, xwn, xpn, xle, xla, xbk, xbz, xba, xbg, xst, xln, xok, xoo, xpz, xfh, xsh, xne, xsm, xwb, xwk, xwo, xcu, xsp, xsa, xpv, xch, xpt, xpl) => post (xq0, xq1, xq2, xq3, xq4, xq5, xq6, xtl, xdl, xnc, xsc, xts, xni, xwl, xsf, xsl, xss, xws, xwn, xpn, xle, xla, xbk, xbz, xba, xbg, xst, xln, xok, xoo, xpz, xfh, xsh, xne, xsm, xwb, xwk, xwo, xcu, xsp, xsa, xpv, xch, xpt, xpl)) (n := d) (xpn := nI (Q.length + T.length)) hN hS hT hQ hTl hs (by omega) E (fun pp' le' la' pt pl E' => ok pp' K le' la' xni xbk xbz xba xbg xne xsm pt pl (by rw [← hd]; exact E'))
    rw [← e] at this
    exact this
  intro m
  induction m with
  | zero =>
    intro f t w d pp K le la xni xbk xbz xba xbg xne xsm xpt xpl hm hf ht hd E
    obtain ⟨f, rfl⟩ : ∃ m, f = m + 1 := ⟨f - 1, by omega⟩
    have fin := last w d pp K le la xni xbk xbz xba xbg xne xsm xpt xpl (by omega) E
    exact br_c (fun _ => fin) (fun _ => br_t (nI_le (by omega) (by omega)) fin)
  | succ m ih =>
    intro f t w d pp K le la xni xbk xbz xba xbg xne xsm xpt xpl hm hf ht hd E
    obtain ⟨f, rfl⟩ : ∃ m, f = m + 1 := ⟨f - 1, by omega⟩
    refine pk_le 128 t (fun le128 => last w d pp K le la xni xbk xbz xba xbg xne xsm xpt xpl (by omega) E) (fun lt128 => pk_le (Q.length + T.length) (Q.length + w + d) (fun ge => last w d pp K le la xni xbk xbz xba xbg xne xsm xpt xpl (by omega) E) (fun lt => ?_))
    have go : ∀ (x4 x5 x6 xbk xbz xba xbg : Int32), dv_BS (Q ++ T) (Q.length + w + d) x4 x5 x6 →
        wX_encodeTarget_81 post (wX_encodeTarget_11 post f) (nI (Q.length + w + d)) (nI (Q.length + w)) (nI t) x4 x5 x6 xq0 xq1 xq2 xq3 xq4 xq5 xq6 xtl xdl (nI N) (nI (16 * S)) (nI (dv_sz N S)) xni xwl xsf xsl xss xws xwn (nI (Q.length + T.length)) (nI le) (nI la) xbk xbz xba xbg xst xln xok xoo xpz xfh xsh xne xsm xwb xwk xwo xcu xsp xsa xpv xch xpt xpl := by
      intro x4 x5 x6 xbk xbz xba xbg hB
      unfold wX_encodeTarget_81
      rcases hB with rfl | ⟨rfl, n, rfl, h4, hn, hr⟩ | ⟨rfl, n, a, rfl, rfl, ha, h4, hn, hr⟩
      · exact br_t rfl (nm_r (nI_1 _) (nm_r (nI_1 t) (ih f (t + 1) w (d + 1) pp K le la _ _ _ _ _ _ _ _ _ (by omega) (by omega) (by omega) (by omega) E)))
      · refine br_f (by decide) (dx_ea (n := d) hN hS hT hQ hTl hs hd E fun pp' le' la' pt pl E' => br_t rfl ?_)
        rw [Nat.add_assoc] at hr hn ⊢
        refine dx_er hN hS hT hQ hTl hs (by omega) h4 hr E' fun pp2 le2 la2 pt2 pl2 E2 => ?_
        unfold wX_encodeTarget_123
        rw [nI_add]
        refine nm_e (nm_r (nI_1 t) ?_)
        have := ih f (t + 1) (w + d + n) 0 pp2 K le2 la2 xni xbk xbz xba xbg xne xsm pt2 pl2 (by omega) (by omega) (by omega) (by omega) E2
        rw [Nat.add_zero, ← Nat.add_assoc Q.length] at this
        exact this
      · refine br_f (by decide) (dx_ea (n := d) hN hS hT hQ hTl hs hd E fun pp' le' la' pt pl E' => br_f (by decide) ?_)
        rw [Nat.add_assoc] at hr hn ha ⊢
        refine dx_ec hN hS hT hQ hTl (by omega) h4 ha hr E' fun pp2 K2 le2 la2 ni2 ne2 sm2 pt2 pl2 E2 => ?_
        unfold wX_encodeTarget_123
        rw [nI_add]
        refine nm_e (nm_r (nI_1 t) ?_)
        have := ih f (t + 1) (w + d + n) 0 pp2 K2 le2 la2 ni2 xbk xbz xba xbg ne2 sm2 pt2 pl2 (by omega) (by omega) (by omega) (by omega) E2
        rw [Nat.add_zero, ← Nat.add_assoc Q.length] at this
        exact this
    rw [← hsp]
    refine dx_weigh hN hS (by omega) hs (by omega) E.2.2.2 (by rw [hsp]; exact hV) fun bk bz ba bg hB => ?_
    rw [hsp]
    refine br_c (fun _ => go bk bz ba _ _ _ _ hB) (fun _ => ?_)
    rw [show nI (Q.length + w + d) + 1 = nI (Q.length + w + d + 1) from nI_1 _, ← hsp]
    refine dx_weigh hN hS (by omega) hs (by omega) E.2.2.2 (by rw [hsp]; exact hV) fun bk2 bz2 ba2 bg2 hB2 => ?_
    rw [hsp]
    exact br_c (fun _ => go bk bz ba _ _ _ _ hB) (fun _ => go 0 bz ba _ _ _ _ (Or.inl rfl))
theorem dx_et {post : SX → Prop} (hN : N ≤ 4) (hS : S ≤ 3) (hT : dv_TB N S xfh xsh) (hQ : Q.length ≤ 128) (hTl : T.length ≤ 128) (hln : xln 0 = nI Q.length) (hs : dv_Seg xsa 0 (Q ++ T))
    (hV : ∀ i, i + 4 ≤ Q.length + T.length → xpv i = -1 ∨ ∃ j, j < i ∧ xpv i = nI j) (hP : dv_TY (fun _ => []) xpt xpl) (hK : dv_CX N S dv_K0 xni xne xsm)
    (ok : ∀ pp K le la ni bk bz ba bg ne sm pt pl, dv_ES N S Q T pp T.length K le la ni ne sm pt pl → post (xq0, xq1, xq2, xq3, xq4, xq5, xq6, xtl, xdl, nI N, nI (16 * S), nI (dv_sz N S), ni, xwl, xsf, xsl, xss, xws, xwn, nI (Q.length + T.length), nI le, nI la, bk, bz, ba, bg, xst, xln, xok, xoo, xpz, xfh, xsh, ne, sm, xwb, xwk, xwo, xcu, xsp, xsa, xpv, xch, pt, pl)) :
    wpX_encodeTarget post (xq0, xq1, xq2, xq3, xq4, xq5, xq6, xtl, xdl, nI N, nI (16 * S), nI (dv_sz N S), xni, xwl, xsf, xsl, xss, xws, xwn, nI (Q.length + T.length), nI 0, nI 0, xbk, xbz, xba, xbg, xst, xln, xok, xoo, xpz, xfh, xsh, xne, xsm, xwb, xwk, xwo, xcu, xsp, xsa, xpv, xch, xpt, xpl) := by
  unfold wpX_encodeTarget
  refine nm_r hln ⟨T.length + 1, ?_⟩
  exact dx_et11 hN hS hT hQ hTl hs hV ok T.length (T.length + 1) 0 0 0 (fun _ => []) dv_K0 0 0 _ _ _ _ _ _ _ _ _ (by omega) (by omega) (by omega) (by omega) ⟨⟨rfl, ⟨Nat.zero_le _, Nat.zero_le _, Nat.zero_le _⟩, ⟨0, dv_EO_0⟩, Or.inl rfl⟩, by omega, hP, hK⟩
end
end
section
/-! X: the head of the window, and the row of the slot -/
def dv_of (pp : Nat → List Nat) : Nat → Nat
  | 0 => 0
  | r + 1 => dv_of pp r + (pp r).length
def dv_W (pp : Nat → List Nat) : List Nat := pp 0 ++ (pp 1 ++ (pp 2 ++ pp 3))
theorem dv_W_len {pp : Nat → List Nat} : (dv_W pp).length = dv_of pp 4 := by
  unfold dv_W
  simp only [List.length_append, dv_of]
  omega
theorem dv_W_gl {pp : Nat → List Nat} {r i : Nat} (hr : r < 4) (hi : i < (pp r).length) : dv_gl (dv_W pp) (dv_of pp r + i) = dv_gl (pp r) i := by
  unfold dv_W
  have : r = 0 ∨ r = 1 ∨ r = 2 ∨ r = 3 := by omega
  rcases this with rfl | rfl | rfl | rfl
  · simp only [dv_of]
    rw [Nat.zero_add, dv_gl_l hi]
  · simp only [dv_of]
    rw [Nat.zero_add, dv_gl_r, dv_gl_l hi]
  · simp only [dv_of]
    rw [Nat.zero_add, Nat.add_assoc, dv_gl_r, dv_gl_r, dv_gl_l hi]
  · simp only [dv_of]
    rw [Nat.zero_add, Nat.add_assoc, Nat.add_assoc, dv_gl_r, dv_gl_r, dv_gl_r]
theorem dv_of_m {pp : Nat → List Nat} {r : Nat} (hr : r < 4) : dv_of pp r + (pp r).length ≤ dv_of pp 4 := by
  have : r = 0 ∨ r = 1 ∨ r = 2 ∨ r = 3 := by omega
  rcases this with rfl | rfl | rfl | rfl <;> simp only [dv_of] <;> omega
section
variable {xq0 xq1 xq2 xq3 xq4 xq5 xq6 xtl xdl xnc xsc xts xni xwl xsf xsl xss xws xwn xpn xle xla xbk xbz xba xbg : Int32} {xst xln xok xoo xpz xfh xsh xne xsm xwb xwk xwo xcu xsp xsa xpv xch xpt xpl : Nat → Int32}
variable {pp : Nat → List Nat}
theorem dx_cw163 {post : SX → Prop} {J : Int32 → Int32 → (Nat → Int32) → (Nat → Int32) → (Nat → Int32) → (Nat → Int32) → (Nat → Int32) → (Nat → Int32) → (Nat → Int32) → (Nat → Int32) → (Nat → Int32) → (Nat → Int32) → (Nat → Int32) → (Nat → Int32) → (Nat → Int32) → (Nat → Int32) → (Nat → Int32) → (Nat → Int32) → (Nat → Int32) → (Nat → Int32) → (Nat → Int32) → Prop} {r row : Nat} (hr : r < 4) (hrow : row < 6) (hW : dv_of pp 4 ≤ 512) (hl : ∀ q, q < 4 → (pp q).length ≤ 256) (hP : dv_TY pp xpt xpl) (st0 : Nat → Int32)
    (ok : ∀ st, (∀ j, j < dv_of pp (r + 1) → st (512 * row + j) = nI (dv_gl (dv_W pp) j)) → (∀ j, j < 512 * row ∨ 512 * row + 512 ≤ j → st j = st0 j) → J (nI (dv_of pp (r + 1))) (nI (r + 1)) st xln xok xoo xpz xfh xsh xne xsm xwb xwk xwo xcu xsp xsa xpv xch xpt xpl) :
    ∀ (m f i : Nat) (xst : Nat → Int32), i + m = (pp r).length → m < f → (∀ j, j < dv_of pp r + i → xst (512 * row + j) = nI (dv_gl (dv_W pp) j)) → (∀ j, j < 512 * row ∨ 512 * row + 512 ≤ j → xst j = st0 j) →
    wX_closeWindow_163 post J (nI row) (nI r) xq0 xq1 xq2 xq3 xq4 xq5 xq6 xtl xdl xnc xsc xts xni xwl xsf xsl xss xws xwn xpn xle xla xbk xbz xba xbg f (nI (dv_of pp r + i)) (nI i) xst xln xok xoo xpz xfh xsh xne xsm xwb xwk xwo xcu xsp xsa xpv xch xpt xpl := by
  have ho := dv_of_m (pp := pp) hr
  have hlr := hl r hr
  obtain ⟨p1, p2⟩ := hP r hr
  have cr : (nI r).toNatClampNeg = r := nI_clamp (by omega)
  have i4 : vp_in (nI r) 4 := vp_in_nI hr (by omega)
  intro m
  induction m with
  | zero =>
    intro f i xst hi hf h1 h2
    obtain ⟨f, rfl⟩ : ∃ m, f = m + 1 := ⟨f - 1, by omega⟩
    obtain rfl : i = (pp r).length := by omega
    exact ⟨i4, br_t (by rw [cr, p1]; exact nI_le (by omega) (by omega)) (nm_r (nI_1 r) (ok xst h1 h2))⟩
  | succ m ih =>
    intro f i xst hi hf h1 h2
    obtain ⟨f, rfl⟩ : ∃ m, f = m + 1 := ⟨f - 1, by omega⟩
    have e1 : nI r * 256 + nI i = nI (256 * r + i) := by rw [show nI r * 256 = nI (r * 256) from pk_mul r 256, nI_add, Nat.mul_comm]
    have e2 : nI row * 512 + nI (dv_of pp r + i) = nI (512 * row + (dv_of pp r + i)) := by rw [show nI row * 512 = nI (row * 512) from pk_mul row 512, nI_add, Nat.mul_comm]
    have lt : 256 * r + i < 2 ^ 31 := by omega
    have lt2 : 512 * row + (dv_of pp r + i) < 2 ^ 31 := by omega
    refine ⟨i4, br_f (by rw [cr, p1]; exact nI_ge (by omega) (by omega)) (br_f (nI_ge (b := 512) (by omega) (by omega)) ?_)⟩
    rw [e1, e2, nI_clamp lt, nI_clamp lt2, (p2 i (by omega)).1, ← dv_W_gl hr (by omega)]
    refine ⟨vp_in_nI (by omega) (by omega), vp_in_nI (by omega) (by omega), nm_e (nm_r (nI_1 _) (nm_r (nI_1 i) (ih f (i + 1) _ (by omega) (by omega) ?_ ?_)))⟩
    · intro j hj
      by_cases z : j = dv_of pp r + i
      · rw [z, pk_us]
      · rw [pk_un (by omega)]; exact h1 j (by omega)
    · intro j hj
      rw [pk_un (by omega)]; exact h2 j hj
theorem dx_cw154 {post : SX → Prop} {row : Nat} (hrow : row < 6) (hW : dv_of pp 4 ≤ 512) (hl : ∀ q, q < 4 → (pp q).length ≤ 256) (hP : dv_TY pp xpt xpl) (st0 : Nat → Int32)
    (ok : ∀ st, dv_Seg st (512 * row) (dv_W pp) → (∀ j, j < 512 * row ∨ 512 * row + 512 ≤ j → st j = st0 j) → post (xq0, xq1, xq2, xq3, xq4, xq5, xq6, xtl, xdl, xnc, xsc, xts, xni, xwl, xsf, xsl, xss, xws, xwn, xpn, xle, xla, xbk, xbz, xba, xbg, st, upd xln row (nI (dv_W pp).length), xok, xoo, xpz, xfh, xsh, xne, xsm, xwb, xwk, xwo, xcu, xsp, xsa, xpv, xch, xpt, xpl)) :
    ∀ (k f r : Nat) (xst : Nat → Int32), r + k = 4 → k < f → (∀ j, j < dv_of pp r → xst (512 * row + j) = nI (dv_gl (dv_W pp) j)) → (∀ j, j < 512 * row ∨ 512 * row + 512 ≤ j → xst j = st0 j) →
    wX_closeWindow_154 post (nI row) xq0 xq1 xq2 xq3 xq4 xq5 xq6 xtl xdl xnc xsc xts xni xwl xsf xsl xss xws xwn xpn xle xla xbk xbz xba xbg f (nI (dv_of pp r)) (nI r) xst xln xok xoo xpz xfh xsh xne xsm xwb xwk xwo xcu xsp xsa xpv xch xpt xpl := by
  intro k
  induction k with
  | zero =>
    intro f r xst hr hf h1 h2
    obtain ⟨f, rfl⟩ : ∃ m, f = m + 1 := ⟨f - 1, by omega⟩
    obtain rfl : r = 4 := by omega
    refine br_t (nI_lt (a := 3) (b := 4) (by omega) (by omega)) ⟨vp_in_nI hrow (by omega), ?_⟩
    rw [nI_clamp (by omega), ← dv_W_len]
    refine nm_e (ok xst (fun j hj => ⟨h1 j (by rw [← dv_W_len]; exact hj), ?_⟩) h2)
    rw [dv_W_len] at hj
    have key : ∀ r, r < 4 → dv_of pp r ≤ j → j < dv_of pp r + (pp r).length → dv_gl (dv_W pp) j < 256 := by
      intro r hr a b
      have := dv_W_gl (pp := pp) (r := r) (i := j - dv_of pp r) hr (by omega)
      rw [show dv_of pp r + (j - dv_of pp r) = j by omega] at this
      rw [this]
      exact ((hP r hr).2 _ (by omega)).2
    simp only [dv_of] at hj key
    by_cases z0 : j < 0 + (pp 0).length
    · exact key 0 (by omega) (by simp only [dv_of]; omega) (by simp only [dv_of]; omega)
    · by_cases z1 : j < 0 + (pp 0).length + (pp 1).length
      · exact key 1 (by omega) (by simp only [dv_of]; omega) (by simp only [dv_of]; omega)
      · by_cases z2 : j < 0 + (pp 0).length + (pp 1).length + (pp 2).length
        · exact key 2 (by omega) (by simp only [dv_of]; omega) (by simp only [dv_of]; omega)
        · exact key 3 (by omega) (by simp only [dv_of]; omega) (by simp only [dv_of]; omega)
  | succ k ih =>
    intro f r xst hr hf h1 h2
    obtain ⟨f, rfl⟩ : ∃ m, f = m + 1 := ⟨f - 1, by omega⟩
    refine br_f (nI_nlt (a := 3) (by omega) (by omega)) ⟨(pp r).length + 1, ?_⟩
    exact dx_cw163 (by omega) hrow hW hl hP st0 (fun st g1 g2 => ih f (r + 1) st (by omega) (by omega) g1 g2) (pp r).length ((pp r).length + 1) 0 xst (by omega) (by omega) h1 h2
theorem dx_il {post : Int32 → Prop} {v : Nat} (hv : v < 16384) (ok : post (nI (dv_en v).length)) : wpX_integerLength post (xq0, xq1, xq2, xq3, xq4, xq5, xq6, xtl, xdl, xnc, xsc, xts, xni, xwl, xsf, xsl, xss, xws, xwn, xpn, xle, xla, xbk, xbz, xba, xbg, xst, xln, xok, xoo, xpz, xfh, xsh, xne, xsm, xwb, xwk, xwo, xcu, xsp, xsa, xpv, xch, xpt, xpl) (nI v) := by
  rw [dv_en_len] at ok
  refine br_t (nI_lt (b := 16384) hv (by omega)) (pk_lt v 128 (fun lt => ?_) (fun ge => ?_))
  · rw [if_pos lt] at ok; exact ok
  · rw [if_neg (by omega)] at ok; exact ok
end
theorem dv_apL {pp : Nat → List Nat} {M : List Nat} (h0 : pp 0 = []) {n : Nat} (hM : M.length ≤ n) (hl : ∀ q, q < 4 → (pp q).length ≤ 128) (hn : n ≤ 250) : (dv_ap pp 0 M 0).length < 255 ∧ ∀ q, q < 4 → (dv_ap pp 0 M q).length ≤ 255 := by
  have e : (dv_ap pp 0 M 0).length = M.length := by rw [dv_ap_s, h0, List.nil_append]
  refine ⟨by omega, fun q hq => ?_⟩
  by_cases z : q = 0
  · rw [z]; omega
  · rw [dv_ap_n z]; have := hl q hq; omega
section
variable {xq0 xq1 xq2 xq3 xq4 xq5 xq6 xtl xdl xnc xsc xts xni xwl xsf xsl xss xws xwn xpn xle xla xbk xbz xba xbg : Int32} {xst xln xok xoo xpz xfh xsh xne xsm xwb xwk xwo xcu xsp xsa xpv xch xpt xpl : Nat → Int32}
variable {pp : Nat → List Nat}
theorem dx_cw97 {post : SX → Prop} {s tn rest : Nat} {M : List Nat} (h0 : pp 0 = []) (hl : ∀ q, q < 4 → (pp q).length ≤ 128) (hM : M.length ≤ 10) (htn : tn ≤ 128) (hrest : rest < 16384) (hP : dv_TY (dv_ap pp 0 M) xpt xpl)
    (ok : ∀ pt pl, dv_TY (dv_ap pp 0 (M ++ (dv_en rest ++ (dv_en tn ++ (0 :: (dv_en (pp 1).length ++ (dv_en (pp 2).length ++ dv_en (pp 3).length))))))) pt pl → ∃ n, wX_closeWindow_154 post (nI (4 + s)) xq0 xq1 xq2 xq3 xq4 xq5 xq6 xtl xdl xnc xsc xts xni xwl xsf xsl xss xws xwn xpn xle xla xbk xbz xba xbg n 0 0 xst xln xok xoo xpz xfh xsh xne xsm xwb xwk xwo xcu xsp xsa xpv xch pt pl) :
    wX_closeWindow_97 post (nI s) (nI tn) (nI rest) xq0 xq1 xq2 xq3 xq4 xq5 xq6 xtl xdl xnc xsc xts xni xwl xsf xsl xss xws xwn xpn xle xla xbk xbz xba xbg xst xln xok xoo xpz xfh xsh xne xsm xwb xwk xwo xcu xsp xsa xpv xch xpt xpl := by
  have en2 : ∀ v, (dv_en v).length ≤ 2 := fun v => by rw [dv_en_len]; split <;> omega
  have b1 := en2 rest
  have b2 := en2 tn
  have b3 := en2 (pp 1).length
  have b4 := en2 (pp 2).length
  have b5 := en2 (pp 3).length
  have c1 := hl 1 (by omega)
  have c2 := hl 2 (by omega)
  have c3 := hl 3 (by omega)
  unfold wX_closeWindow_97
  have l0 := dv_apL h0 hM hl (by omega)
  refine dx_putI (r := 0) (by omega) hrest hP l0.1 l0.2 fun pt pl hP => ?_
  rw [dv_ap_ap] at hP
  have l1 := dv_apL (M := M ++ dv_en rest) (n := 12) h0 (by rw [List.length_append]; omega) hl (by omega)
  refine dx_putI (r := 0) (by omega) (by omega) hP l1.1 l1.2 fun pt pl hP => ?_
  rw [dv_ap_ap] at hP
  have l2 := dv_apL (M := M ++ dv_en rest ++ dv_en tn) (n := 14) h0 (by simp only [List.length_append]; omega) hl (by omega)
  refine dx_put (r := 0) (b := 0) (by omega) hP (by have := l2.1; omega) (fun q hq => Nat.le_trans (l2.2 q hq) (by omega)) (by decide) (by omega) fun pt pl hP => ⟨4, ?_⟩
  rw [dv_ap_ap] at hP
  have n1 : ∀ {M' : List Nat} {r : Nat}, 1 ≤ r → dv_ap pp 0 M' r = pp r := fun h => dv_ap_n (by omega)
  have e1 := (hP 1 (by omega)).1
  rw [n1 (by omega)] at e1
  have l3 := dv_apL (M := M ++ dv_en rest ++ dv_en tn ++ [0]) (n := 15) h0 (by simp only [List.length_append, List.length_singleton]; omega) hl (by omega)
  refine br_f (by decide) ⟨vp_in_nI (n := 1) (by omega) (by omega), ?_⟩
  refine sb_at (P := fun x => wpX_putInteger _ _ _ x) e1 ?_
  refine dx_putI (r := 0) (by omega) (by omega) hP l3.1 l3.2 fun pt pl hP => nm_r (e' := nI 2) rfl ?_
  rw [dv_ap_ap] at hP
  have e2 := (hP 2 (by omega)).1
  rw [n1 (by omega)] at e2
  have l4 := dv_apL (M := M ++ dv_en rest ++ dv_en tn ++ [0] ++ dv_en (pp 1).length) (n := 17) h0 (by simp only [List.length_append, List.length_singleton]; omega) hl (by omega)
  refine br_f (by decide) ⟨vp_in_nI (n := 2) (by omega) (by omega), ?_⟩
  refine sb_at (P := fun x => wpX_putInteger _ _ _ x) e2 ?_
  refine dx_putI (r := 0) (by omega) (by omega) hP l4.1 l4.2 fun pt pl hP => nm_r (e' := nI 3) rfl ?_
  rw [dv_ap_ap] at hP
  have e3 := (hP 3 (by omega)).1
  rw [n1 (by omega)] at e3
  have l5 := dv_apL (M := M ++ dv_en rest ++ dv_en tn ++ [0] ++ dv_en (pp 1).length ++ dv_en (pp 2).length) (n := 19) h0 (by simp only [List.length_append, List.length_singleton]; omega) hl (by omega)
  refine br_f (by decide) ⟨vp_in_nI (n := 3) (by omega) (by omega), ?_⟩
  refine sb_at (P := fun x => wpX_putInteger _ _ _ x) e3 ?_
  refine dx_putI (r := 0) (by omega) (by omega) hP l5.1 l5.2 fun pt pl hP => nm_r (e' := nI 4) rfl ?_
  rw [dv_ap_ap] at hP
  refine br_t (by decide) (nm_r (e' := nI (4 + s)) (nI_add 4 s) (ok pt pl ?_))
  simp only [List.append_assoc, List.cons_append, List.nil_append] at hP ⊢
  exact hP
theorem dx_cw {post : SX → Prop} {s : Nat} {Q T : List Nat} (hs : s < 2) (h0 : pp 0 = []) (hl : ∀ q, q < 4 → (pp q).length ≤ 128) (hQ : Q.length ≤ 128) (hT : T.length ≤ 128) (l0 : xln 0 = nI Q.length) (l1 : xln 1 = nI T.length) (hP : dv_TY pp xpt xpl)
    (ok : ∀ st pt pl, dv_Seg st (512 * (4 + s)) (dv_hd Q T (pp 1) (pp 2) (pp 3) ++ (pp 1 ++ (pp 2 ++ pp 3))) → (dv_hd Q T (pp 1) (pp 2) (pp 3) ++ (pp 1 ++ (pp 2 ++ pp 3))).length ≤ 512 → (∀ j, j < 512 * (4 + s) ∨ 512 * (4 + s) + 512 ≤ j → st j = xst j) →
      post (xq0, xq1, xq2, xq3, xq4, xq5, xq6, xtl, xdl, xnc, xsc, xts, xni, xwl, xsf, xsl, xss, xws, xwn, xpn, xle, xla, xbk, xbz, xba, xbg, st, upd xln (4 + s) (nI (dv_hd Q T (pp 1) (pp 2) (pp 3) ++ (pp 1 ++ (pp 2 ++ pp 3))).length), xok, xoo, xpz, xfh, xsh, xne, xsm, xwb, xwk, xwo, xcu, xsp, xsa, xpv, xch, pt, pl)) :
    wpX_closeWindow post (xq0, xq1, xq2, xq3, xq4, xq5, xq6, xtl, xdl, xnc, xsc, xts, xni, xwl, xsf, xsl, xss, xws, xwn, xpn, xle, xla, xbk, xbz, xba, xbg, xst, xln, xok, xoo, xpz, xfh, xsh, xne, xsm, xwb, xwk, xwo, xcu, xsp, xsa, xpv, xch, xpt, xpl) (nI s) := by
  have en2 : ∀ v, (dv_en v).length ≤ 2 := fun v => by rw [dv_en_len]; split <;> omega
  have b1 := en2 T.length
  have b3 := en2 (pp 1).length
  have b4 := en2 (pp 2).length
  have b5 := en2 (pp 3).length
  have b6 := en2 Q.length
  have b7 := en2 0
  have c1 := hl 1 (by omega)
  have c2 := hl 2 (by omega)
  have c3 := hl 3 (by omega)
  have fin : ∀ (M : List Nat) (pt pl : Nat → Int32) (rest : Nat), rest = 1 + (dv_en T.length).length + ((dv_en (pp 1).length).length + (pp 1).length) + ((dv_en (pp 2).length).length + (pp 2).length) + ((dv_en (pp 3).length).length + (pp 3).length) →
      M = (if Q.length = 0 then [0] else 1 :: (dv_en Q.length ++ dv_en 0)) → dv_TY (dv_ap pp 0 M) pt pl → wX_closeWindow_97 post (nI s) (nI T.length) (nI rest) xq0 xq1 xq2 xq3 xq4 xq5 xq6 xtl xdl xnc xsc xts xni xwl xsf xsl xss xws xwn xpn xle xla xbk xbz xba xbg xst xln xok xoo xpz xfh xsh xne xsm xwb xwk xwo xcu xsp xsa xpv xch pt pl := by
    intro M pt pl rest er eM hP
    have lM : M.length ≤ 10 := by
      rw [eM]
      split
      · simp
      · simp only [List.length_cons, List.length_append]; omega
    refine dx_cw97 h0 hl lM (by omega) (by omega) hP fun pt pl hP => ⟨5, ?_⟩
    have eh : M ++ (dv_en rest ++ (dv_en T.length ++ (0 :: (dv_en (pp 1).length ++ (dv_en (pp 2).length ++ dv_en (pp 3).length))))) = dv_hd Q T (pp 1) (pp 2) (pp 3) := by
      unfold dv_hd
      rw [eM, er]
    rw [eh] at hP
    have lh : (dv_hd Q T (pp 1) (pp 2) (pp 3)).length ≤ 24 := by
      rw [← eh]
      have := en2 rest
      simp only [List.length_append, List.length_cons]
      omega
    have n1 : ∀ {M' : List Nat} {r : Nat}, 1 ≤ r → dv_ap pp 0 M' r = pp r := fun h => dv_ap_n (by omega)
    have eW : dv_W (dv_ap pp 0 (dv_hd Q T (pp 1) (pp 2) (pp 3))) = dv_hd Q T (pp 1) (pp 2) (pp 3) ++ (pp 1 ++ (pp 2 ++ pp 3)) := by
      unfold dv_W
      rw [dv_ap_s, h0, List.nil_append, n1 (by omega), n1 (by omega), n1 (by omega)]
    have lW : (dv_hd Q T (pp 1) (pp 2) (pp 3) ++ (pp 1 ++ (pp 2 ++ pp 3))).length ≤ 512 := by
      simp only [List.length_append]
      omega
    have lall := dv_apL (M := dv_hd Q T (pp 1) (pp 2) (pp 3)) (n := 24) h0 lh hl (by omega)
    refine dx_cw154 (pp := dv_ap pp 0 (dv_hd Q T (pp 1) (pp 2) (pp 3))) (row := 4 + s) (by omega) (by rw [← dv_W_len, eW]; exact lW) (fun q hq => Nat.le_trans (lall.2 q hq) (by omega)) hP xst ?_ 4 5 0 xst (by omega) (by omega) (fun j hj => absurd hj (Nat.not_lt_zero j)) (fun j _ => rfl)
    intro st g1 g2
    rw [eW] at g1 ⊢
    exact ok st pt pl g1 lW g2
  unfold wpX_closeWindow
  refine nm_r l0 (nm_r l1 (dx_il (by omega) (nm_r (nI_add 1 _) ⟨4, ?_⟩)))
  have e1 := (hP 1 (by omega)).1
  have e2 := (hP 2 (by omega)).1
  have e3 := (hP 3 (by omega)).1
  refine br_f (by decide) ⟨vp_in_nI (n := 1) (by omega) (by omega), ?_⟩
  refine sb_at (P := fun x => wpX_integerLength _ _ x) e1 (dx_il (by omega) (nm_r (nI_add _ _) ⟨vp_in_nI (n := 1) (by omega) (by omega), nm_r (e' := nI (1 + (dv_en T.length).length + (dv_en (pp 1).length).length + (pp 1).length)) (by show _ + xpl 1 = _; rw [e1, nI_add]) (nm_r (e' := nI 2) rfl ?_)⟩))
  refine br_f (by decide) ⟨vp_in_nI (n := 2) (by omega) (by omega), ?_⟩
  refine sb_at (P := fun x => wpX_integerLength _ _ x) e2 (dx_il (by omega) (nm_r (nI_add _ _) ⟨vp_in_nI (n := 2) (by omega) (by omega), nm_r (e' := nI (1 + (dv_en T.length).length + (dv_en (pp 1).length).length + (pp 1).length + (dv_en (pp 2).length).length + (pp 2).length)) (by show _ + xpl 2 = _; rw [e2, nI_add]) (nm_r (e' := nI 3) rfl ?_)⟩))
  refine br_f (by decide) ⟨vp_in_nI (n := 3) (by omega) (by omega), ?_⟩
  refine sb_at (P := fun x => wpX_integerLength _ _ x) e3 (dx_il (by omega) (nm_r (nI_add _ _) ⟨vp_in_nI (n := 3) (by omega) (by omega), nm_r (e' := nI (1 + (dv_en T.length).length + (dv_en (pp 1).length).length + (pp 1).length + (dv_en (pp 2).length).length + (pp 2).length + (dv_en (pp 3).length).length + (pp 3).length)) (by show _ + xpl 3 = _; rw [e3, nI_add]) (nm_r (e' := nI 4) rfl ?_)⟩))
  refine br_t (by decide) ?_
  have ll : ∀ q, q < 4 → (pp q).length ≤ 255 := fun q hq => Nat.le_trans (hl q hq) (by omega)
  refine pk_le Q.length 0 (fun z => ?_) (fun z => ?_)
  · refine dx_put (r := 0) (b := 0) (by omega) hP (by rw [h0]; simp) (fun q hq => Nat.le_trans (ll q hq) (by omega)) (by decide) (by omega) fun pt pl hP => ?_
    exact fin [0] pt pl _ (by omega) (by rw [if_pos (by omega)]) hP
  · refine dx_put (r := 0) (b := 1) (by omega) hP (by rw [h0]; simp) (fun q hq => Nat.le_trans (ll q hq) (by omega)) (by decide) (by omega) fun pt pl hP => ?_
    have l1 := dv_apL (M := [1]) (n := 1) h0 (by simp) hl (by omega)
    refine dx_putI (r := 0) (by omega) (by omega) hP l1.1 l1.2 fun pt pl hP => ?_
    rw [dv_ap_ap] at hP
    have l2 := dv_apL (M := [1] ++ dv_en Q.length) (n := 3) h0 (by rw [List.length_append, List.length_singleton]; omega) hl (by omega)
    refine dx_putI (r := 0) (v := 0) (by omega) (by omega) hP l2.1 l2.2 fun pt pl hP => ?_
    rw [dv_ap_ap] at hP
    exact fin ([1] ++ dv_en Q.length ++ dv_en 0) pt pl _ (by omega) (by rw [if_neg (by omega)]; simp) hP
end
end
section
/-! makePatch -/
section
variable {ytl ydl ync ysc yrl yin ysl yss yws ywn ylc : Int32} {ytx yln ykd yor ypa ypz yrb yrk yro ycu yen ylr : Nat → Int32}
theorem dy_mp25 {post : Int32 → SY → Prop} {s : Nat} {T : List Nat} (hs : s < 2) (hT : T.length ≤ 128) (hl : yln 1 = nI T.length) (ht : dv_Seg ytx 256 T) (pa0 : Nat → Int32)
    (ok : ∀ pa, dv_Seg pa (128 * s) T → (∀ j, j < 128 * s ∨ 128 * s + 128 ≤ j → pa j = pa0 j) → post 1 (ytl, ydl, ync, ysc, yrl, yin, ysl, yss, yws, ywn, ylc, ytx, yln, ykd, yor, pa, ypz, yrb, yrk, yro, ycu, yen, ylr)) :
    ∀ (m f i : Nat) (ypa : Nat → Int32), i + m = T.length → m < f → (∀ j, j < i → ypa (128 * s + j) = nI (dv_gl T j)) → (∀ j, j < 128 * s ∨ 128 * s + 128 ≤ j → ypa j = pa0 j) →
    wY_makePatch_25 post (nI s) ytl ydl ync ysc yrl yin ysl yss yws ywn ylc f (nI i) ytx yln ykd yor ypa ypz yrb yrk yro ycu yen ylr := by
  intro m
  induction m with
  | zero =>
    intro f i ypa hi hf h1 h2
    obtain ⟨f, rfl⟩ : ∃ m, f = m + 1 := ⟨f - 1, by omega⟩
    obtain rfl : i = T.length := by omega
    exact br_t (by rw [hl]; exact nI_le (by omega) (by omega)) (ok ypa (fun j hj => ⟨h1 j hj, (ht j hj).2⟩) h2)
  | succ m ih =>
    intro f i ypa hi hf h1 h2
    obtain ⟨f, rfl⟩ : ∃ m, f = m + 1 := ⟨f - 1, by omega⟩
    have e : nI s * 128 + nI i = nI (128 * s + i) := by rw [show nI s * 128 = nI (s * 128) from pk_mul s 128, nI_add, Nat.mul_comm]
    refine br_f (by rw [hl]; exact nI_ge (by omega) (by omega)) (dy_at0 (r := 1) (by omega) hl (by omega) (by omega) (ht i (by omega)).1 ?_)
    rw [e, nI_clamp (by omega)]
    refine ⟨vp_in_nI (by omega) (by omega), nm_e (nm_r (nI_1 i) (ih f (i + 1) _ (by omega) (by omega) (fun j hj => ?_) (fun j hj => ?_)))⟩
    · by_cases z : j = i
      · rw [z, pk_us]
      · rw [pk_un (by omega)]; exact h1 j (by omega)
    · rw [pk_un (by omega)]; exact h2 j hj
end
theorem i_vc_makePatch {k : Nat} {u : SX} {v : SY} (I : i_Rel k u v) (hk : k + 4 ≤ 2052) (v1 : Int32) : wpX_makePatch (fun r u' => wpY_makePatch (fun r' v' => r' = r ∧ i_Rel (k + 4) u' v') v v1) u v1 := by
  refine dv_el (P := fun u v => wpX_makePatch (fun r u' => wpY_makePatch (fun r' v' => r' = r ∧ i_Rel (k + 4) u' v') v v1) u v1) I ?_
  intro xq0 xq1 xq2 xq3 xq4 xq5 xq6 xtl xdl xnc xsc xts xni xwl xsf xsl xss xws xwn xpn xle xla xbk xbz xba xbg xst xln xok xoo xpz xfh xsh xne xsm xwb xwk xwo xcu xsp xsa xpv xch xpt xpl ytl ydl ync ysc yrl yin ysl yss yws ywn ylc ytx yln ykd yor ypa ypz yrb yrk yro ycu yen ylr tl dl N S tx F
  have R : i_Rel (k + 4) (xq0, xq1, xq2, xq3, xq4, xq5, xq6, nI tl, nI dl, nI N, nI (16 * S), nI (dv_sz N S), xni, xwl, xsf, xsl, xss, xws, xwn, xpn, xle, xla, xbk, xbz, xba, xbg, xst, xln, xok, xoo, xpz, xfh, xsh, xne, xsm, xwb, xwk, xwo, xcu, xsp, xsa, xpv, xch, xpt, xpl) (nI tl, nI dl, nI N, nI S, yrl, yin, ysl, yss, yws, ywn, ylc, ytx, yln, ykd, yor, ypa, ypz, yrb, yrk, yro, ycu, yen, ylr) := dv_in F
  unfold wpX_makePatch
  rcases dv_ix (n := 1) (m := 1) v1 rfl (by omega) with h | ⟨h, h3⟩ | ⟨s, hs, rfl⟩
  · exact br_t h (br_t h ⟨rfl, R⟩)
  · refine br_f h (br_f ?_ (br_f h (br_f (Int32.not_le.mpr h3) ⟨rfl, R⟩)))
    rw [Int32.lt_iff_toInt_lt]
    rw [Int32.lt_iff_toInt_lt] at h3
    have a : (1 : Int32).toInt = 1 := by decide
    have b : (2 : Int32).toInt = 2 := by decide
    omega
  · obtain ⟨f1, f2, f3, f4, f5, f6, f7⟩ := F
    have p := f1
    obtain ⟨a1, a2, a3, a4, a5, a6⟩ := p
    obtain ⟨l1, l2⟩ := dv_L128 f1 f2 (q := 0) (by omega) (by omega)
    obtain ⟨l3, _⟩ := dv_L128 f1 f2 (q := 1) (by omega) (by omega)
    have x0 := f3 0 (by omega)
    have x1 := f3 1 (by omega)
    have y1 := f4 1 (by omega)
    have n0 : ¬ nI s < 0 := nI_pos (by omega)
    have n1 : nI s ≤ 1 := nI_le (b := 1) (by omega) (by omega)
    have i2 : vp_in (nI s) 2 := vp_in_nI (by omega) (by omega)
    have cs : (nI s).toNatClampNeg = s := nI_clamp (by omega)
    refine br_f n0 (br_t (nI_lt (b := 2) hs (by omega)) ?_)
    refine dx_fs (Q := tx 0) (T := tx 1) (by omega) (by omega) x0.1 x1.1 x0.2 x1.2 fun sa hsa => ?_
    refine dx_ch (by omega) fun pv ch hV => ?_
    refine dx_ow a5 a6 fun ne sm pl hK hP => ?_
    refine dx_et a5 a6 f5 (by omega) (by omega) x0.1 hsa hV hP hK fun pp K le la ni bk bz ba bg ne2 sm2 pt2 pl2 E => ?_
    obtain ⟨E1, E2, E3, E4⟩ := E
    have hl := dv_EI_l E1 (by omega)
    refine dx_cw hs E1.1 hl (by omega) (by omega) x0.1 x1.1 E3 fun st pt3 pl3 s1 s2 s3 => ⟨i2, nm_e ?_⟩
    refine br_f n0 (br_t n1 ⟨i2, nm_e ⟨(tx 1).length + 1, ?_⟩⟩)
    refine dy_mp25 hs (by omega) y1.1 y1.2 ypa (fun pa q1 q2 => ⟨rfl, ?_⟩) (tx 1).length _ 0 ypa (by omega) (by omega) (fun j hj => absurd hj (Nat.not_lt_zero j)) (fun j _ => rfl)
    rw [cs]
    obtain ⟨m, hEO⟩ := E1.2.2.1
    refine dv_in ⟨f1, f2, ?_, f4, f5, f6, ?_⟩
    · intro r hr
      rw [pk_un (by omega)]
      obtain ⟨g1, g2⟩ := f3 r hr
      refine ⟨g1, dv_Seg_eq g2 fun i hi => s3 _ ?_⟩
      have := dv_L256 f1 f2 hr
      omega
    · intro q hq
      by_cases z : q = s
      · subst z
        refine Or.inr ⟨tx 1, _, l3, ?_, ?_, q1, pk_us, s2, s1, dv_hd_ok (m := m) (K := K) (by omega) l3 a2 (hl 1 (by omega)) (hl 2 (by omega)) (hl 3 (by omega)) hEO⟩
        · rw [pk_us, pk_un (by omega)]; exact x1.1
        · rw [pk_us]; exact y1.1
      · rcases f7 q hq with h | ⟨P, H, p1, p2, p3, p4, p5, p6, p7, p8⟩
        · exact Or.inl ⟨(pk_un z).trans h.1, (pk_un z).trans h.2⟩
        · refine Or.inr ⟨P, H, p1, (pk_un z).trans p2, (pk_un z).trans p3, dv_Seg_eq p4 fun i hi => q2 _ ?_, (pk_un (by omega)).trans p5, p6, dv_Seg_eq p7 fun i hi => s3 _ ?_, p8⟩
          · omega
          · omega
end
