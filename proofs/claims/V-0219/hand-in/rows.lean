section
/-! pure rows to paste: stores, nI and lN arithmetic, masks, shifts, narrowing, branches by naturals (pk_le, pk_lt, pk_eq), loops (lp1 .. lp16: the measure of the state; rp1 ..: recursion), negatives. Take what you need -/
theorem pk_us {f : Nat → Int32} {k : Nat} {x : Int32} : upd f k x k = x := if_pos rfl
theorem pk_un {f : Nat → Int32} {k j : Nat} {x : Int32} (h : j ≠ k) : upd f k x j = f j := if_neg h
theorem pk_uLs {f : Nat → Int64} {k : Nat} {x : Int64} : vp_updL f k x k = x := if_pos rfl
theorem pk_uLn {f : Nat → Int64} {k j : Nat} {x : Int64} (h : j ≠ k) : vp_updL f k x j = f j := if_neg h
theorem pk_sub {a b : Nat} (h : b ≤ a) : nI a - nI b = nI (a - b) := by
  obtain ⟨c, rfl⟩ : ∃ c, a = c + b := ⟨a - b, by omega⟩
  rw [← nI_add, Int32.add_sub_cancel, Nat.add_sub_cancel]
theorem pk_m1 (n : Nat) : nI (n + 1) + (-1) = nI n := by
  rw [← nI_1, Int32.add_assoc, show (1 : Int32) + (-1) = 0 from rfl, Int32.add_zero]
theorem pk_mul (a b : Nat) : nI a * nI b = nI (a * b) := (Int32.ofNat_mul a b).symm
theorem pk_div {a d : Nat} (ha : a < 2 ^ 31) (h0 : 0 < d) (hd : d < 2 ^ 31) : nI a / nI d = nI (a / d) := by
  apply Int32.toInt_inj.mp
  rw [lg_idiv_nonneg (by rw [nI_toInt ha]; omega) (by rw [nI_toInt hd]; omega), nI_toInt ha, nI_toInt hd, nI_toInt (Nat.lt_of_le_of_lt (Nat.div_le_self a d) ha)]
  first | rfl | exact (Int.natCast_ediv _ _).symm
theorem pk_rem {a d : Nat} (ha : a < 2 ^ 31) (h0 : 0 < d) (hd : d < 2 ^ 31) : nI a - nI a / nI d * nI d = nI (a % d) := by
  rw [pk_div ha h0 hd, pk_mul, pk_sub (Nat.div_mul_le_self a d)]
  exact congrArg nI (by have := Nat.div_add_mod' a d; omega)
theorem pk_sub_toInt {a b : Nat} (ha : a < 2 ^ 30) (hb : b < 2 ^ 30) : (nI a - nI b).toInt = (a : Int) - b := by
  rw [Int32.toInt_sub, nI_toInt (by omega), nI_toInt (by omega)]
  exact Int.bmod_eq_of_le (by omega) (by omega)
theorem pk_sneg {a b : Nat} (hb : b < 2 ^ 30) (h : a < b) : nI a - nI b < 0 := by
  rw [Int32.lt_iff_toInt_lt, pk_sub_toInt (by omega) hb, show (0 : Int32).toInt = 0 from by decide]
  omega
theorem pk_ix (x : Int32) {n : Nat} (hn : n < 2 ^ 31) : x < 0 ∨ nI n ≤ x ∨ ∃ j : Nat, j < n ∧ x = nI j := by
  by_cases h : x < 0
  · exact Or.inl h
  · obtain ⟨j, hj, rfl⟩ := nI_of h
    by_cases h2 : j < n
    · exact Or.inr (Or.inr ⟨j, h2, rfl⟩)
    · exact Or.inr (Or.inl (nI_le (by omega) hj))
theorem pk_le {x y : Int32} {A B : Prop} (a b : Nat) (f : a ≤ b → A) (g : b < a → B) (hx : x = nI a := by rfl) (hy : y = nI b := by rfl) (ha : a < 2 ^ 31 := by omega) (hb : b < 2 ^ 31 := by omega) : (x ≤ y → A) ∧ (¬ x ≤ y → B) := by
  subst hx hy
  rw [nI_leI ha hb]
  exact ⟨f, fun z => g (by omega)⟩
theorem pk_lt {x y : Int32} {A B : Prop} (a b : Nat) (f : a < b → A) (g : b ≤ a → B) (hx : x = nI a := by rfl) (hy : y = nI b := by rfl) (ha : a < 2 ^ 31 := by omega) (hb : b < 2 ^ 31 := by omega) : (x < y → A) ∧ (¬ x < y → B) := by
  subst hx hy
  rw [nI_ltI ha hb]
  exact ⟨f, fun z => g (by omega)⟩
theorem pk_eq {x y : Int32} {A B : Prop} (a b : Nat) (f : a = b → A) (g : a ≠ b → B) (hx : x = nI a := by rfl) (hy : y = nI b := by rfl) (ha : a < 2 ^ 31 := by omega) (hb : b < 2 ^ 31 := by omega) : (x = y → A) ∧ (¬ x = y → B) := by
  subst hx hy
  rw [nI_eq ha hb]
  exact ⟨f, g⟩
theorem pk_in {x : Int32} (n N : Nat) (h : n < N) (hx : x = nI n := by rfl) (hN : N < 2 ^ 31 := by omega) : vp_in x N := by
  subst hx
  exact vp_in_nI h hN
theorem pk_cl {x : Int32} (n : Nat) (hx : x = nI n := by rfl) (h : n < 2 ^ 31 := by omega) : x.toNatClampNeg = n := by
  subst hx
  exact nI_clamp h
theorem pk_tn {n : Nat} (h : n < 2 ^ 32) : (nI n).toBitVec.toNat = n := Nat.mod_eq_of_lt h
theorem pk_and (x : Int32) {m : Int32} (k : Nat) (hm : m.toBitVec.toNat = 2 ^ k - 1) : x &&& m = nI (x.toBitVec.toNat % 2 ^ k) := by
  apply Int32.toBitVec_inj.mp
  apply BitVec.eq_of_toNat_eq
  rw [Int32.toBitVec_and, BitVec.toNat_and, hm, Nat.and_two_pow_sub_one_eq_mod]
  show _ = (BitVec.ofNat 32 _).toNat
  rw [BitVec.toNat_ofNat]
  exact (Nat.mod_eq_of_lt (Nat.lt_of_le_of_lt (Nat.mod_le _ _) x.toBitVec.isLt)).symm
theorem pk_andN {n : Nat} (h : n < 2 ^ 32) {m : Int32} (k : Nat) (hm : m.toBitVec.toNat = 2 ^ k - 1) : nI n &&& m = nI (n % 2 ^ k) := by
  rw [pk_and _ k hm, pk_tn h]
theorem pk_andE (x : Int32) {m : Int32} (k : Nat) (hm : m.toBitVec.toNat = 2 ^ k - 1) : ∃ j : Nat, j < 2 ^ k ∧ x &&& m = nI j := ⟨_, Nat.mod_lt _ (Nat.two_pow_pos k), pk_and x k hm⟩
theorem pk_andIn (x : Int32) {m : Int32} (k : Nat) (hm : m.toBitVec.toNat = 2 ^ k - 1) (hk : k ≤ 30) : vp_in (x &&& m) (2 ^ k) := by
  obtain ⟨j, hj, e⟩ := pk_andE x k hm
  rw [e]
  exact vp_in_nI hj (Nat.lt_of_le_of_lt (Nat.pow_le_pow_right (by decide) hk) (by decide))
theorem pk_shl (a s : Int32) (k : Nat) (hs : (s.toBitVec.smod 32).toNat = k) : (a <<< s).toBitVec.toNat = a.toBitVec.toNat * 2 ^ k % 2 ^ 32 := by
  show (a.toBitVec <<< (s.toBitVec.smod 32).toNat).toNat = _
  rw [hs, BitVec.toNat_shiftLeft, Nat.shiftLeft_eq]
theorem pk_shlN {n : Nat} (s : Int32) (k : Nat) (hs : (s.toBitVec.smod 32).toNat = k) (h : n * 2 ^ k < 2 ^ 32) : nI n <<< s = nI (n * 2 ^ k) := by
  apply Int32.toBitVec_inj.mp
  apply BitVec.eq_of_toNat_eq
  have hn : n < 2 ^ 32 := Nat.lt_of_le_of_lt (Nat.le_mul_of_pos_right n (Nat.two_pow_pos k)) h
  rw [pk_shl _ _ k hs, pk_tn hn, pk_tn h, Nat.mod_eq_of_lt h]
theorem pk_shr (a s : Int32) (k : Nat) (hs : (s.toBitVec.smod 32).toNat = k) : (a >>> s).toInt = a.toInt >>> k := by
  show (a.toBitVec.sshiftRight (s.toBitVec.smod 32).toNat).toInt = _
  rw [hs, BitVec.toInt_sshiftRight]
  rfl
theorem pk_shrN {n : Nat} (h : n < 2 ^ 31) (s : Int32) (k : Nat) (hs : (s.toBitVec.smod 32).toNat = k) : nI n >>> s = nI (n / 2 ^ k) := by
  apply Int32.toInt_inj.mp
  have h2 : n / 2 ^ k ≤ n := Nat.div_le_self _ _
  rw [pk_shr _ _ k hs, nI_toInt h, nI_toInt (by omega), Int.shiftRight_eq_div_pow]
  rfl
theorem pk_ushr (x s : Int32) (k : Nat) (hs : ((s.toUInt32 &&& Int32.toUInt32 31).toBitVec % 32).toNat = k) : (x.toUInt32 >>> (s.toUInt32 &&& Int32.toUInt32 31)).toInt32.toBitVec.toNat = x.toBitVec.toNat / 2 ^ k := by
  have e : (x.toUInt32 >>> (s.toUInt32 &&& Int32.toUInt32 31)).toInt32.toBitVec = x.toBitVec >>> k := by
    rw [← hs]
    exact UInt32.toBitVec_shiftRight _ _
  rw [e, BitVec.toNat_ushiftRight, Nat.shiftRight_eq_div_pow]
theorem pk_ushrN {n : Nat} (hn : n < 2 ^ 32) (s : Int32) (k : Nat) (hs : ((s.toUInt32 &&& Int32.toUInt32 31).toBitVec % 32).toNat = k) : ((nI n).toUInt32 >>> (s.toUInt32 &&& Int32.toUInt32 31)).toInt32 = nI (n / 2 ^ k) := by
  apply Int32.toBitVec_inj.mp
  apply BitVec.eq_of_toNat_eq
  rw [pk_ushr _ s k hs, pk_tn hn, pk_tn (Nat.lt_of_le_of_lt (Nat.div_le_self _ _) hn)]
theorem pk_nb (z : Int32) : narrow .byte (.int z.toInt8.toInt32) = .int z.toInt8.toInt32 := congrArg Value.int (by simp)
theorem pk_ns (z : Int32) : narrow .short (.int z.toInt16.toInt32) = .int z.toInt16.toInt32 := congrArg Value.int (by simp)
theorem pk_fb (r : Int32) : fits .byte (.int r.toInt8.toInt32) = true := by
  have ⟨a, b⟩ := lg_i2b_range r
  have h1 : (-128 : Int32).toInt = -128 := by decide
  have h2 : (127 : Int32).toInt = 127 := by decide
  simp only [fits, Bool.and_eq_true, decide_eq_true_eq, Int32.le_iff_toInt_le, h1, h2]
  omega
theorem pk_fs (r : Int32) : fits .short (.int r.toInt16.toInt32) = true := by
  have ⟨a, b⟩ := lg_i2s_range r
  have h1 : (-32768 : Int32).toInt = -32768 := by decide
  have h2 : (32767 : Int32).toInt = 32767 := by decide
  simp only [fits, Bool.and_eq_true, decide_eq_true_eq, Int32.le_iff_toInt_le, h1, h2]
  omega
theorem pk_charN {q : Nat} (hq : q < 65536) : narrow .char (.int (nI q)) = .int (nI q) ∧ fits .char (.int (nI q)) = true := by
  constructor
  · have e : (nI q).toUInt32.toUInt16.toUInt32.toInt32 = nI q := by
      apply Int32.toBitVec_inj.mp
      apply BitVec.eq_of_toNat_eq
      show (nI q).toUInt32.toUInt16.toUInt32.toNat = q % 2 ^ 32
      rw [UInt16.toNat_toUInt32, UInt32.toNat_toUInt16, show (nI q).toUInt32.toNat = q % 2 ^ 32 from rfl]
      omega
    exact congrArg Value.int e
  · have a : (0 : Int32) ≤ nI q := nI_pos' (by omega)
    have b : nI q ≤ 65535 := nI_le (b := 65535) (by omega) (by decide)
    show (decide ((0 : Int32) ≤ nI q) && decide (nI q ≤ 65535)) = true
    rw [decide_eq_true a, decide_eq_true b]
    rfl
theorem pk_char (x : Int32) : (x.toUInt32 % 65536).toInt32 = nI (x.toBitVec.toNat % 65536) := by
  apply Int32.toBitVec_inj.mp
  apply BitVec.eq_of_toNat_eq
  rw [pk_tn (by omega)]
  show (x.toUInt32 % 65536).toNat = _
  rw [UInt32.toNat_mod]
  rfl
theorem pk_nc (x : Int32) : narrow .char (.int (x.toUInt32 % 65536).toInt32) = .int (x.toUInt32 % 65536).toInt32 := by
  rw [pk_char]
  exact (pk_charN (Nat.mod_lt _ (by decide))).1
theorem pk_fc (x : Int32) : fits .char (.int (x.toUInt32 % 65536).toInt32) = true := by
  rw [pk_char]
  exact (pk_charN (Nat.mod_lt _ (by decide))).2
theorem pk_vb (z : Int32) : vp_nar .byte z.toInt8.toInt32 = z.toInt8.toInt32 := by rw [vp_nar_byte]; simp
theorem pk_vs (z : Int32) : vp_nar .short z.toInt16.toInt32 = z.toInt16.toInt32 := by rw [vp_nar_short]; simp
theorem pk_vc (z : Int32) : vp_nar .char (z.toUInt32 % 65536).toInt32 = (z.toUInt32 % 65536).toInt32 := Value.int.inj (pk_nc z)
theorem pk_lT {n : Nat} (h : n < 2 ^ 63) : (lN n).toInt = (n : Int) := lg_ofNat_toInt h
theorem pk_lLT {a b : Nat} (ha : a < 2 ^ 63) (hb : b < 2 ^ 63) : lN a < lN b ↔ a < b := by
  rw [Int64.lt_iff_toInt_lt, pk_lT ha, pk_lT hb]; omega
theorem pk_lLE {a b : Nat} (ha : a < 2 ^ 63) (hb : b < 2 ^ 63) : lN a ≤ lN b ↔ a ≤ b := by
  rw [Int64.le_iff_toInt_le, pk_lT ha, pk_lT hb]; omega
theorem pk_lEQ {a b : Nat} (ha : a < 2 ^ 63) (hb : b < 2 ^ 63) : lN a = lN b ↔ a = b := by
  rw [← Int64.toInt_inj, pk_lT ha, pk_lT hb]; omega
theorem pk_lOf {x : Int64} (h : ¬ x < 0) : ∃ k : Nat, k < 2 ^ 63 ∧ x = lN k := by
  rw [Int64.lt_iff_toInt_lt] at h
  have h0 : (0 : Int64).toInt = 0 := by decide
  have hx := Int64.toInt_lt x
  refine ⟨x.toInt.toNat, by omega, Int64.toInt_inj.mp ?_⟩
  rw [pk_lT (by omega)]
  omega
theorem pk_lDiv {a b : Nat} (ha : a < 2 ^ 63) (h0 : 0 < b) (hb : b < 2 ^ 63) : lN a / lN b = lN (a / b) := by
  apply Int64.toInt_inj.mp
  rw [lg_ldiv_nonneg (by rw [pk_lT ha]; omega) (by rw [pk_lT hb]; omega), pk_lT ha, pk_lT hb, pk_lT (Nat.lt_of_le_of_lt (Nat.div_le_self a b) ha)]
  rfl
theorem pk_lRem {a b : Nat} (ha : a < 2 ^ 63) (h0 : 0 < b) (hb : b < 2 ^ 63) : lN a - lN a / lN b * lN b = lN (a % b) := by
  rw [pk_lDiv ha h0 hb, lN_mul, lN_sub (Nat.div_mul_le_self a b)]
  exact congrArg lN (by have := Nat.div_add_mod' a b; omega)
theorem pk_loop {σ : Type} (W : Nat → Nat → σ → Prop) (I : Nat → σ → Prop) (e i0 : Nat) (s : σ) (hi : i0 ≤ e) (h0 : I i0 s) (hx : ∀ n s, I e s → W (n + 1) e s)
    (hs : ∀ n i s, i < e → I i s → (∀ s', I (i + 1) s' → W n (i + 1) s') → W (n + 1) i s) : ∃ n, W n i0 s :=
  ⟨e + 1, loop_i W I e hx hs (e + 1) i0 s hi (by omega) h0⟩
theorem pk_loopD {σ : Type} (W : Nat → Nat → σ → Prop) (I : Nat → σ → Prop) (hx : ∀ n s, I 0 s → W (n + 1) 0 s)
    (hs : ∀ n i s, I (i + 1) s → (∀ s', I i s' → W n i s') → W (n + 1) (i + 1) s) : ∀ (e : Nat) (s : σ), I e s → W (e + 1) e s := by
  intro e
  induction e with
  | zero => exact fun s h => hx 0 s h
  | succ e ih => exact fun s h => hs (e + 1) e s h (fun s' h' => ih s' h')
theorem lp1 {A1 : Type} (W : Nat → A1 → Prop) (I : A1 → Prop) (μ : A1 → Nat) (hs : ∀ (n : Nat) (a1 : A1), I a1 → (∀ (b1 : A1), I b1 → μ b1 < μ a1 → W n b1) → W (n + 1) a1) (a1 : A1) (h : I a1) : ∃ n, W n a1 :=
  loop_m (σ := A1) (fun n s => W n s) (fun s => I s) (fun s => μ s) (fun n s hI hk => hs n s hI (fun b1 h9 hm => hk b1 h9 hm)) a1 h
theorem lp2 {A1 A2 : Type} (W : Nat → A1 → A2 → Prop) (I : A1 → A2 → Prop) (μ : A1 → A2 → Nat) (hs : ∀ (n : Nat) (a1 : A1) (a2 : A2), I a1 a2 → (∀ (b1 : A1) (b2 : A2), I b1 b2 → μ b1 b2 < μ a1 a2 → W n b1 b2) → W (n + 1) a1 a2) (a1 : A1) (a2 : A2) (h : I a1 a2) : ∃ n, W n a1 a2 :=
  loop_m (σ := A1 × A2) (fun n s => W n s.1 s.2) (fun s => I s.1 s.2) (fun s => μ s.1 s.2) (fun n s hI hk => hs n s.1 s.2 hI (fun b1 b2 h9 hm => hk (b1, b2) h9 hm)) (a1, a2) h
theorem lp3 {A1 A2 A3 : Type} (W : Nat → A1 → A2 → A3 → Prop) (I : A1 → A2 → A3 → Prop) (μ : A1 → A2 → A3 → Nat) (hs : ∀ (n : Nat) (a1 : A1) (a2 : A2) (a3 : A3), I a1 a2 a3 → (∀ (b1 : A1) (b2 : A2) (b3 : A3), I b1 b2 b3 → μ b1 b2 b3 < μ a1 a2 a3 → W n b1 b2 b3) → W (n + 1) a1 a2 a3) (a1 : A1) (a2 : A2) (a3 : A3) (h : I a1 a2 a3) : ∃ n, W n a1 a2 a3 :=
  loop_m (σ := A1 × A2 × A3) (fun n s => W n s.1 s.2.1 s.2.2) (fun s => I s.1 s.2.1 s.2.2) (fun s => μ s.1 s.2.1 s.2.2) (fun n s hI hk => hs n s.1 s.2.1 s.2.2 hI (fun b1 b2 b3 h9 hm => hk (b1, b2, b3) h9 hm)) (a1, a2, a3) h
theorem lp4 {A1 A2 A3 A4 : Type} (W : Nat → A1 → A2 → A3 → A4 → Prop) (I : A1 → A2 → A3 → A4 → Prop) (μ : A1 → A2 → A3 → A4 → Nat) (hs : ∀ (n : Nat) (a1 : A1) (a2 : A2) (a3 : A3) (a4 : A4), I a1 a2 a3 a4 → (∀ (b1 : A1) (b2 : A2) (b3 : A3) (b4 : A4), I b1 b2 b3 b4 → μ b1 b2 b3 b4 < μ a1 a2 a3 a4 → W n b1 b2 b3 b4) → W (n + 1) a1 a2 a3 a4) (a1 : A1) (a2 : A2) (a3 : A3) (a4 : A4) (h : I a1 a2 a3 a4) : ∃ n, W n a1 a2 a3 a4 :=
  loop_m (σ := A1 × A2 × A3 × A4) (fun n s => W n s.1 s.2.1 s.2.2.1 s.2.2.2) (fun s => I s.1 s.2.1 s.2.2.1 s.2.2.2) (fun s => μ s.1 s.2.1 s.2.2.1 s.2.2.2) (fun n s hI hk => hs n s.1 s.2.1 s.2.2.1 s.2.2.2 hI (fun b1 b2 b3 b4 h9 hm => hk (b1, b2, b3, b4) h9 hm)) (a1, a2, a3, a4) h
theorem lp5 {A1 A2 A3 A4 A5 : Type} (W : Nat → A1 → A2 → A3 → A4 → A5 → Prop) (I : A1 → A2 → A3 → A4 → A5 → Prop) (μ : A1 → A2 → A3 → A4 → A5 → Nat) (hs : ∀ (n : Nat) (a1 : A1) (a2 : A2) (a3 : A3) (a4 : A4) (a5 : A5), I a1 a2 a3 a4 a5 → (∀ (b1 : A1) (b2 : A2) (b3 : A3) (b4 : A4) (b5 : A5), I b1 b2 b3 b4 b5 → μ b1 b2 b3 b4 b5 < μ a1 a2 a3 a4 a5 → W n b1 b2 b3 b4 b5) → W (n + 1) a1 a2 a3 a4 a5) (a1 : A1) (a2 : A2) (a3 : A3) (a4 : A4) (a5 : A5) (h : I a1 a2 a3 a4 a5) : ∃ n, W n a1 a2 a3 a4 a5 :=
  loop_m (σ := A1 × A2 × A3 × A4 × A5) (fun n s => W n s.1 s.2.1 s.2.2.1 s.2.2.2.1 s.2.2.2.2) (fun s => I s.1 s.2.1 s.2.2.1 s.2.2.2.1 s.2.2.2.2) (fun s => μ s.1 s.2.1 s.2.2.1 s.2.2.2.1 s.2.2.2.2) (fun n s hI hk => hs n s.1 s.2.1 s.2.2.1 s.2.2.2.1 s.2.2.2.2 hI (fun b1 b2 b3 b4 b5 h9 hm => hk (b1, b2, b3, b4, b5) h9 hm)) (a1, a2, a3, a4, a5) h
theorem lp6 {A1 A2 A3 A4 A5 A6 : Type} (W : Nat → A1 → A2 → A3 → A4 → A5 → A6 → Prop) (I : A1 → A2 → A3 → A4 → A5 → A6 → Prop) (μ : A1 → A2 → A3 → A4 → A5 → A6 → Nat) (hs : ∀ (n : Nat) (a1 : A1) (a2 : A2) (a3 : A3) (a4 : A4) (a5 : A5) (a6 : A6), I a1 a2 a3 a4 a5 a6 → (∀ (b1 : A1) (b2 : A2) (b3 : A3) (b4 : A4) (b5 : A5) (b6 : A6), I b1 b2 b3 b4 b5 b6 → μ b1 b2 b3 b4 b5 b6 < μ a1 a2 a3 a4 a5 a6 → W n b1 b2 b3 b4 b5 b6) → W (n + 1) a1 a2 a3 a4 a5 a6) (a1 : A1) (a2 : A2) (a3 : A3) (a4 : A4) (a5 : A5) (a6 : A6) (h : I a1 a2 a3 a4 a5 a6) : ∃ n, W n a1 a2 a3 a4 a5 a6 :=
  loop_m (σ := A1 × A2 × A3 × A4 × A5 × A6) (fun n s => W n s.1 s.2.1 s.2.2.1 s.2.2.2.1 s.2.2.2.2.1 s.2.2.2.2.2) (fun s => I s.1 s.2.1 s.2.2.1 s.2.2.2.1 s.2.2.2.2.1 s.2.2.2.2.2) (fun s => μ s.1 s.2.1 s.2.2.1 s.2.2.2.1 s.2.2.2.2.1 s.2.2.2.2.2) (fun n s hI hk => hs n s.1 s.2.1 s.2.2.1 s.2.2.2.1 s.2.2.2.2.1 s.2.2.2.2.2 hI (fun b1 b2 b3 b4 b5 b6 h9 hm => hk (b1, b2, b3, b4, b5, b6) h9 hm)) (a1, a2, a3, a4, a5, a6) h
theorem lp7 {A1 A2 A3 A4 A5 A6 A7 : Type} (W : Nat → A1 → A2 → A3 → A4 → A5 → A6 → A7 → Prop) (I : A1 → A2 → A3 → A4 → A5 → A6 → A7 → Prop) (μ : A1 → A2 → A3 → A4 → A5 → A6 → A7 → Nat) (hs : ∀ (n : Nat) (a1 : A1) (a2 : A2) (a3 : A3) (a4 : A4) (a5 : A5) (a6 : A6) (a7 : A7), I a1 a2 a3 a4 a5 a6 a7 → (∀ (b1 : A1) (b2 : A2) (b3 : A3) (b4 : A4) (b5 : A5) (b6 : A6) (b7 : A7), I b1 b2 b3 b4 b5 b6 b7 → μ b1 b2 b3 b4 b5 b6 b7 < μ a1 a2 a3 a4 a5 a6 a7 → W n b1 b2 b3 b4 b5 b6 b7) → W (n + 1) a1 a2 a3 a4 a5 a6 a7) (a1 : A1) (a2 : A2) (a3 : A3) (a4 : A4) (a5 : A5) (a6 : A6) (a7 : A7) (h : I a1 a2 a3 a4 a5 a6 a7) : ∃ n, W n a1 a2 a3 a4 a5 a6 a7 :=
  loop_m (σ := A1 × A2 × A3 × A4 × A5 × A6 × A7) (fun n s => W n s.1 s.2.1 s.2.2.1 s.2.2.2.1 s.2.2.2.2.1 s.2.2.2.2.2.1 s.2.2.2.2.2.2) (fun s => I s.1 s.2.1 s.2.2.1 s.2.2.2.1 s.2.2.2.2.1 s.2.2.2.2.2.1 s.2.2.2.2.2.2) (fun s => μ s.1 s.2.1 s.2.2.1 s.2.2.2.1 s.2.2.2.2.1 s.2.2.2.2.2.1 s.2.2.2.2.2.2) (fun n s hI hk => hs n s.1 s.2.1 s.2.2.1 s.2.2.2.1 s.2.2.2.2.1 s.2.2.2.2.2.1 s.2.2.2.2.2.2 hI (fun b1 b2 b3 b4 b5 b6 b7 h9 hm => hk (b1, b2, b3, b4, b5, b6, b7) h9 hm)) (a1, a2, a3, a4, a5, a6, a7) h
theorem lp8 {A1 A2 A3 A4 A5 A6 A7 A8 : Type} (W : Nat → A1 → A2 → A3 → A4 → A5 → A6 → A7 → A8 → Prop) (I : A1 → A2 → A3 → A4 → A5 → A6 → A7 → A8 → Prop) (μ : A1 → A2 → A3 → A4 → A5 → A6 → A7 → A8 → Nat) (hs : ∀ (n : Nat) (a1 : A1) (a2 : A2) (a3 : A3) (a4 : A4) (a5 : A5) (a6 : A6) (a7 : A7) (a8 : A8), I a1 a2 a3 a4 a5 a6 a7 a8 → (∀ (b1 : A1) (b2 : A2) (b3 : A3) (b4 : A4) (b5 : A5) (b6 : A6) (b7 : A7) (b8 : A8), I b1 b2 b3 b4 b5 b6 b7 b8 → μ b1 b2 b3 b4 b5 b6 b7 b8 < μ a1 a2 a3 a4 a5 a6 a7 a8 → W n b1 b2 b3 b4 b5 b6 b7 b8) → W (n + 1) a1 a2 a3 a4 a5 a6 a7 a8) (a1 : A1) (a2 : A2) (a3 : A3) (a4 : A4) (a5 : A5) (a6 : A6) (a7 : A7) (a8 : A8) (h : I a1 a2 a3 a4 a5 a6 a7 a8) : ∃ n, W n a1 a2 a3 a4 a5 a6 a7 a8 :=
  loop_m (σ := A1 × A2 × A3 × A4 × A5 × A6 × A7 × A8) (fun n s => W n s.1 s.2.1 s.2.2.1 s.2.2.2.1 s.2.2.2.2.1 s.2.2.2.2.2.1 s.2.2.2.2.2.2.1 s.2.2.2.2.2.2.2) (fun s => I s.1 s.2.1 s.2.2.1 s.2.2.2.1 s.2.2.2.2.1 s.2.2.2.2.2.1 s.2.2.2.2.2.2.1 s.2.2.2.2.2.2.2) (fun s => μ s.1 s.2.1 s.2.2.1 s.2.2.2.1 s.2.2.2.2.1 s.2.2.2.2.2.1 s.2.2.2.2.2.2.1 s.2.2.2.2.2.2.2) (fun n s hI hk => hs n s.1 s.2.1 s.2.2.1 s.2.2.2.1 s.2.2.2.2.1 s.2.2.2.2.2.1 s.2.2.2.2.2.2.1 s.2.2.2.2.2.2.2 hI (fun b1 b2 b3 b4 b5 b6 b7 b8 h9 hm => hk (b1, b2, b3, b4, b5, b6, b7, b8) h9 hm)) (a1, a2, a3, a4, a5, a6, a7, a8) h
theorem lp9 {A1 A2 A3 A4 A5 A6 A7 A8 A9 : Type} (W : Nat → A1 → A2 → A3 → A4 → A5 → A6 → A7 → A8 → A9 → Prop) (I : A1 → A2 → A3 → A4 → A5 → A6 → A7 → A8 → A9 → Prop) (μ : A1 → A2 → A3 → A4 → A5 → A6 → A7 → A8 → A9 → Nat) (hs : ∀ (n : Nat) (a1 : A1) (a2 : A2) (a3 : A3) (a4 : A4) (a5 : A5) (a6 : A6) (a7 : A7) (a8 : A8) (a9 : A9), I a1 a2 a3 a4 a5 a6 a7 a8 a9 → (∀ (b1 : A1) (b2 : A2) (b3 : A3) (b4 : A4) (b5 : A5) (b6 : A6) (b7 : A7) (b8 : A8) (b9 : A9), I b1 b2 b3 b4 b5 b6 b7 b8 b9 → μ b1 b2 b3 b4 b5 b6 b7 b8 b9 < μ a1 a2 a3 a4 a5 a6 a7 a8 a9 → W n b1 b2 b3 b4 b5 b6 b7 b8 b9) → W (n + 1) a1 a2 a3 a4 a5 a6 a7 a8 a9) (a1 : A1) (a2 : A2) (a3 : A3) (a4 : A4) (a5 : A5) (a6 : A6) (a7 : A7) (a8 : A8) (a9 : A9) (h : I a1 a2 a3 a4 a5 a6 a7 a8 a9) : ∃ n, W n a1 a2 a3 a4 a5 a6 a7 a8 a9 :=
  loop_m (σ := A1 × A2 × A3 × A4 × A5 × A6 × A7 × A8 × A9) (fun n s => W n s.1 s.2.1 s.2.2.1 s.2.2.2.1 s.2.2.2.2.1 s.2.2.2.2.2.1 s.2.2.2.2.2.2.1 s.2.2.2.2.2.2.2.1 s.2.2.2.2.2.2.2.2) (fun s => I s.1 s.2.1 s.2.2.1 s.2.2.2.1 s.2.2.2.2.1 s.2.2.2.2.2.1 s.2.2.2.2.2.2.1 s.2.2.2.2.2.2.2.1 s.2.2.2.2.2.2.2.2) (fun s => μ s.1 s.2.1 s.2.2.1 s.2.2.2.1 s.2.2.2.2.1 s.2.2.2.2.2.1 s.2.2.2.2.2.2.1 s.2.2.2.2.2.2.2.1 s.2.2.2.2.2.2.2.2) (fun n s hI hk => hs n s.1 s.2.1 s.2.2.1 s.2.2.2.1 s.2.2.2.2.1 s.2.2.2.2.2.1 s.2.2.2.2.2.2.1 s.2.2.2.2.2.2.2.1 s.2.2.2.2.2.2.2.2 hI (fun b1 b2 b3 b4 b5 b6 b7 b8 b9 h9 hm => hk (b1, b2, b3, b4, b5, b6, b7, b8, b9) h9 hm)) (a1, a2, a3, a4, a5, a6, a7, a8, a9) h
theorem lp10 {A1 A2 A3 A4 A5 A6 A7 A8 A9 A10 : Type} (W : Nat → A1 → A2 → A3 → A4 → A5 → A6 → A7 → A8 → A9 → A10 → Prop) (I : A1 → A2 → A3 → A4 → A5 → A6 → A7 → A8 → A9 → A10 → Prop) (μ : A1 → A2 → A3 → A4 → A5 → A6 → A7 → A8 → A9 → A10 → Nat) (hs : ∀ (n : Nat) (a1 : A1) (a2 : A2) (a3 : A3) (a4 : A4) (a5 : A5) (a6 : A6) (a7 : A7) (a8 : A8) (a9 : A9) (a10 : A10), I a1 a2 a3 a4 a5 a6 a7 a8 a9 a10 → (∀ (b1 : A1) (b2 : A2) (b3 : A3) (b4 : A4) (b5 : A5) (b6 : A6) (b7 : A7) (b8 : A8) (b9 : A9) (b10 : A10), I b1 b2 b3 b4 b5 b6 b7 b8 b9 b10 → μ b1 b2 b3 b4 b5 b6 b7 b8 b9 b10 < μ a1 a2 a3 a4 a5 a6 a7 a8 a9 a10 → W n b1 b2 b3 b4 b5 b6 b7 b8 b9 b10) → W (n + 1) a1 a2 a3 a4 a5 a6 a7 a8 a9 a10) (a1 : A1) (a2 : A2) (a3 : A3) (a4 : A4) (a5 : A5) (a6 : A6) (a7 : A7) (a8 : A8) (a9 : A9) (a10 : A10) (h : I a1 a2 a3 a4 a5 a6 a7 a8 a9 a10) : ∃ n, W n a1 a2 a3 a4 a5 a6 a7 a8 a9 a10 :=
  loop_m (σ := A1 × A2 × A3 × A4 × A5 × A6 × A7 × A8 × A9 × A10) (fun n s => W n s.1 s.2.1 s.2.2.1 s.2.2.2.1 s.2.2.2.2.1 s.2.2.2.2.2.1 s.2.2.2.2.2.2.1 s.2.2.2.2.2.2.2.1 s.2.2.2.2.2.2.2.2.1 s.2.2.2.2.2.2.2.2.2) (fun s => I s.1 s.2.1 s.2.2.1 s.2.2.2.1 s.2.2.2.2.1 s.2.2.2.2.2.1 s.2.2.2.2.2.2.1 s.2.2.2.2.2.2.2.1 s.2.2.2.2.2.2.2.2.1 s.2.2.2.2.2.2.2.2.2) (fun s => μ s.1 s.2.1 s.2.2.1 s.2.2.2.1 s.2.2.2.2.1 s.2.2.2.2.2.1 s.2.2.2.2.2.2.1 s.2.2.2.2.2.2.2.1 s.2.2.2.2.2.2.2.2.1 s.2.2.2.2.2.2.2.2.2) (fun n s hI hk => hs n s.1 s.2.1 s.2.2.1 s.2.2.2.1 s.2.2.2.2.1 s.2.2.2.2.2.1 s.2.2.2.2.2.2.1 s.2.2.2.2.2.2.2.1 s.2.2.2.2.2.2.2.2.1 s.2.2.2.2.2.2.2.2.2 hI (fun b1 b2 b3 b4 b5 b6 b7 b8 b9 b10 h9 hm => hk (b1, b2, b3, b4, b5, b6, b7, b8, b9, b10) h9 hm)) (a1, a2, a3, a4, a5, a6, a7, a8, a9, a10) h
theorem lp11 {A1 A2 A3 A4 A5 A6 A7 A8 A9 A10 A11 : Type} (W : Nat → A1 → A2 → A3 → A4 → A5 → A6 → A7 → A8 → A9 → A10 → A11 → Prop) (I : A1 → A2 → A3 → A4 → A5 → A6 → A7 → A8 → A9 → A10 → A11 → Prop) (μ : A1 → A2 → A3 → A4 → A5 → A6 → A7 → A8 → A9 → A10 → A11 → Nat) (hs : ∀ (n : Nat) (a1 : A1) (a2 : A2) (a3 : A3) (a4 : A4) (a5 : A5) (a6 : A6) (a7 : A7) (a8 : A8) (a9 : A9) (a10 : A10) (a11 : A11), I a1 a2 a3 a4 a5 a6 a7 a8 a9 a10 a11 → (∀ (b1 : A1) (b2 : A2) (b3 : A3) (b4 : A4) (b5 : A5) (b6 : A6) (b7 : A7) (b8 : A8) (b9 : A9) (b10 : A10) (b11 : A11), I b1 b2 b3 b4 b5 b6 b7 b8 b9 b10 b11 → μ b1 b2 b3 b4 b5 b6 b7 b8 b9 b10 b11 < μ a1 a2 a3 a4 a5 a6 a7 a8 a9 a10 a11 → W n b1 b2 b3 b4 b5 b6 b7 b8 b9 b10 b11) → W (n + 1) a1 a2 a3 a4 a5 a6 a7 a8 a9 a10 a11) (a1 : A1) (a2 : A2) (a3 : A3) (a4 : A4) (a5 : A5) (a6 : A6) (a7 : A7) (a8 : A8) (a9 : A9) (a10 : A10) (a11 : A11) (h : I a1 a2 a3 a4 a5 a6 a7 a8 a9 a10 a11) : ∃ n, W n a1 a2 a3 a4 a5 a6 a7 a8 a9 a10 a11 :=
  loop_m (σ := A1 × A2 × A3 × A4 × A5 × A6 × A7 × A8 × A9 × A10 × A11) (fun n s => W n s.1 s.2.1 s.2.2.1 s.2.2.2.1 s.2.2.2.2.1 s.2.2.2.2.2.1 s.2.2.2.2.2.2.1 s.2.2.2.2.2.2.2.1 s.2.2.2.2.2.2.2.2.1 s.2.2.2.2.2.2.2.2.2.1 s.2.2.2.2.2.2.2.2.2.2) (fun s => I s.1 s.2.1 s.2.2.1 s.2.2.2.1 s.2.2.2.2.1 s.2.2.2.2.2.1 s.2.2.2.2.2.2.1 s.2.2.2.2.2.2.2.1 s.2.2.2.2.2.2.2.2.1 s.2.2.2.2.2.2.2.2.2.1 s.2.2.2.2.2.2.2.2.2.2) (fun s => μ s.1 s.2.1 s.2.2.1 s.2.2.2.1 s.2.2.2.2.1 s.2.2.2.2.2.1 s.2.2.2.2.2.2.1 s.2.2.2.2.2.2.2.1 s.2.2.2.2.2.2.2.2.1 s.2.2.2.2.2.2.2.2.2.1 s.2.2.2.2.2.2.2.2.2.2) (fun n s hI hk => hs n s.1 s.2.1 s.2.2.1 s.2.2.2.1 s.2.2.2.2.1 s.2.2.2.2.2.1 s.2.2.2.2.2.2.1 s.2.2.2.2.2.2.2.1 s.2.2.2.2.2.2.2.2.1 s.2.2.2.2.2.2.2.2.2.1 s.2.2.2.2.2.2.2.2.2.2 hI (fun b1 b2 b3 b4 b5 b6 b7 b8 b9 b10 b11 h9 hm => hk (b1, b2, b3, b4, b5, b6, b7, b8, b9, b10, b11) h9 hm)) (a1, a2, a3, a4, a5, a6, a7, a8, a9, a10, a11) h
theorem lp12 {A1 A2 A3 A4 A5 A6 A7 A8 A9 A10 A11 A12 : Type} (W : Nat → A1 → A2 → A3 → A4 → A5 → A6 → A7 → A8 → A9 → A10 → A11 → A12 → Prop) (I : A1 → A2 → A3 → A4 → A5 → A6 → A7 → A8 → A9 → A10 → A11 → A12 → Prop) (μ : A1 → A2 → A3 → A4 → A5 → A6 → A7 → A8 → A9 → A10 → A11 → A12 → Nat) (hs : ∀ (n : Nat) (a1 : A1) (a2 : A2) (a3 : A3) (a4 : A4) (a5 : A5) (a6 : A6) (a7 : A7) (a8 : A8) (a9 : A9) (a10 : A10) (a11 : A11) (a12 : A12), I a1 a2 a3 a4 a5 a6 a7 a8 a9 a10 a11 a12 → (∀ (b1 : A1) (b2 : A2) (b3 : A3) (b4 : A4) (b5 : A5) (b6 : A6) (b7 : A7) (b8 : A8) (b9 : A9) (b10 : A10) (b11 : A11) (b12 : A12), I b1 b2 b3 b4 b5 b6 b7 b8 b9 b10 b11 b12 → μ b1 b2 b3 b4 b5 b6 b7 b8 b9 b10 b11 b12 < μ a1 a2 a3 a4 a5 a6 a7 a8 a9 a10 a11 a12 → W n b1 b2 b3 b4 b5 b6 b7 b8 b9 b10 b11 b12) → W (n + 1) a1 a2 a3 a4 a5 a6 a7 a8 a9 a10 a11 a12) (a1 : A1) (a2 : A2) (a3 : A3) (a4 : A4) (a5 : A5) (a6 : A6) (a7 : A7) (a8 : A8) (a9 : A9) (a10 : A10) (a11 : A11) (a12 : A12) (h : I a1 a2 a3 a4 a5 a6 a7 a8 a9 a10 a11 a12) : ∃ n, W n a1 a2 a3 a4 a5 a6 a7 a8 a9 a10 a11 a12 :=
  loop_m (σ := A1 × A2 × A3 × A4 × A5 × A6 × A7 × A8 × A9 × A10 × A11 × A12) (fun n s => W n s.1 s.2.1 s.2.2.1 s.2.2.2.1 s.2.2.2.2.1 s.2.2.2.2.2.1 s.2.2.2.2.2.2.1 s.2.2.2.2.2.2.2.1 s.2.2.2.2.2.2.2.2.1 s.2.2.2.2.2.2.2.2.2.1 s.2.2.2.2.2.2.2.2.2.2.1 s.2.2.2.2.2.2.2.2.2.2.2) (fun s => I s.1 s.2.1 s.2.2.1 s.2.2.2.1 s.2.2.2.2.1 s.2.2.2.2.2.1 s.2.2.2.2.2.2.1 s.2.2.2.2.2.2.2.1 s.2.2.2.2.2.2.2.2.1 s.2.2.2.2.2.2.2.2.2.1 s.2.2.2.2.2.2.2.2.2.2.1 s.2.2.2.2.2.2.2.2.2.2.2) (fun s => μ s.1 s.2.1 s.2.2.1 s.2.2.2.1 s.2.2.2.2.1 s.2.2.2.2.2.1 s.2.2.2.2.2.2.1 s.2.2.2.2.2.2.2.1 s.2.2.2.2.2.2.2.2.1 s.2.2.2.2.2.2.2.2.2.1 s.2.2.2.2.2.2.2.2.2.2.1 s.2.2.2.2.2.2.2.2.2.2.2) (fun n s hI hk => hs n s.1 s.2.1 s.2.2.1 s.2.2.2.1 s.2.2.2.2.1 s.2.2.2.2.2.1 s.2.2.2.2.2.2.1 s.2.2.2.2.2.2.2.1 s.2.2.2.2.2.2.2.2.1 s.2.2.2.2.2.2.2.2.2.1 s.2.2.2.2.2.2.2.2.2.2.1 s.2.2.2.2.2.2.2.2.2.2.2 hI (fun b1 b2 b3 b4 b5 b6 b7 b8 b9 b10 b11 b12 h9 hm => hk (b1, b2, b3, b4, b5, b6, b7, b8, b9, b10, b11, b12) h9 hm)) (a1, a2, a3, a4, a5, a6, a7, a8, a9, a10, a11, a12) h
theorem lp13 {A1 A2 A3 A4 A5 A6 A7 A8 A9 A10 A11 A12 A13 : Type} (W : Nat → A1 → A2 → A3 → A4 → A5 → A6 → A7 → A8 → A9 → A10 → A11 → A12 → A13 → Prop) (I : A1 → A2 → A3 → A4 → A5 → A6 → A7 → A8 → A9 → A10 → A11 → A12 → A13 → Prop) (μ : A1 → A2 → A3 → A4 → A5 → A6 → A7 → A8 → A9 → A10 → A11 → A12 → A13 → Nat) (hs : ∀ (n : Nat) (a1 : A1) (a2 : A2) (a3 : A3) (a4 : A4) (a5 : A5) (a6 : A6) (a7 : A7) (a8 : A8) (a9 : A9) (a10 : A10) (a11 : A11) (a12 : A12) (a13 : A13), I a1 a2 a3 a4 a5 a6 a7 a8 a9 a10 a11 a12 a13 → (∀ (b1 : A1) (b2 : A2) (b3 : A3) (b4 : A4) (b5 : A5) (b6 : A6) (b7 : A7) (b8 : A8) (b9 : A9) (b10 : A10) (b11 : A11) (b12 : A12) (b13 : A13), I b1 b2 b3 b4 b5 b6 b7 b8 b9 b10 b11 b12 b13 → μ b1 b2 b3 b4 b5 b6 b7 b8 b9 b10 b11 b12 b13 < μ a1 a2 a3 a4 a5 a6 a7 a8 a9 a10 a11 a12 a13 → W n b1 b2 b3 b4 b5 b6 b7 b8 b9 b10 b11 b12 b13) → W (n + 1) a1 a2 a3 a4 a5 a6 a7 a8 a9 a10 a11 a12 a13) (a1 : A1) (a2 : A2) (a3 : A3) (a4 : A4) (a5 : A5) (a6 : A6) (a7 : A7) (a8 : A8) (a9 : A9) (a10 : A10) (a11 : A11) (a12 : A12) (a13 : A13) (h : I a1 a2 a3 a4 a5 a6 a7 a8 a9 a10 a11 a12 a13) : ∃ n, W n a1 a2 a3 a4 a5 a6 a7 a8 a9 a10 a11 a12 a13 :=
  loop_m (σ := A1 × A2 × A3 × A4 × A5 × A6 × A7 × A8 × A9 × A10 × A11 × A12 × A13) (fun n s => W n s.1 s.2.1 s.2.2.1 s.2.2.2.1 s.2.2.2.2.1 s.2.2.2.2.2.1 s.2.2.2.2.2.2.1 s.2.2.2.2.2.2.2.1 s.2.2.2.2.2.2.2.2.1 s.2.2.2.2.2.2.2.2.2.1 s.2.2.2.2.2.2.2.2.2.2.1 s.2.2.2.2.2.2.2.2.2.2.2.1 s.2.2.2.2.2.2.2.2.2.2.2.2) (fun s => I s.1 s.2.1 s.2.2.1 s.2.2.2.1 s.2.2.2.2.1 s.2.2.2.2.2.1 s.2.2.2.2.2.2.1 s.2.2.2.2.2.2.2.1 s.2.2.2.2.2.2.2.2.1 s.2.2.2.2.2.2.2.2.2.1 s.2.2.2.2.2.2.2.2.2.2.1 s.2.2.2.2.2.2.2.2.2.2.2.1 s.2.2.2.2.2.2.2.2.2.2.2.2) (fun s => μ s.1 s.2.1 s.2.2.1 s.2.2.2.1 s.2.2.2.2.1 s.2.2.2.2.2.1 s.2.2.2.2.2.2.1 s.2.2.2.2.2.2.2.1 s.2.2.2.2.2.2.2.2.1 s.2.2.2.2.2.2.2.2.2.1 s.2.2.2.2.2.2.2.2.2.2.1 s.2.2.2.2.2.2.2.2.2.2.2.1 s.2.2.2.2.2.2.2.2.2.2.2.2) (fun n s hI hk => hs n s.1 s.2.1 s.2.2.1 s.2.2.2.1 s.2.2.2.2.1 s.2.2.2.2.2.1 s.2.2.2.2.2.2.1 s.2.2.2.2.2.2.2.1 s.2.2.2.2.2.2.2.2.1 s.2.2.2.2.2.2.2.2.2.1 s.2.2.2.2.2.2.2.2.2.2.1 s.2.2.2.2.2.2.2.2.2.2.2.1 s.2.2.2.2.2.2.2.2.2.2.2.2 hI (fun b1 b2 b3 b4 b5 b6 b7 b8 b9 b10 b11 b12 b13 h9 hm => hk (b1, b2, b3, b4, b5, b6, b7, b8, b9, b10, b11, b12, b13) h9 hm)) (a1, a2, a3, a4, a5, a6, a7, a8, a9, a10, a11, a12, a13) h
theorem lp14 {A1 A2 A3 A4 A5 A6 A7 A8 A9 A10 A11 A12 A13 A14 : Type} (W : Nat → A1 → A2 → A3 → A4 → A5 → A6 → A7 → A8 → A9 → A10 → A11 → A12 → A13 → A14 → Prop) (I : A1 → A2 → A3 → A4 → A5 → A6 → A7 → A8 → A9 → A10 → A11 → A12 → A13 → A14 → Prop) (μ : A1 → A2 → A3 → A4 → A5 → A6 → A7 → A8 → A9 → A10 → A11 → A12 → A13 → A14 → Nat) (hs : ∀ (n : Nat) (a1 : A1) (a2 : A2) (a3 : A3) (a4 : A4) (a5 : A5) (a6 : A6) (a7 : A7) (a8 : A8) (a9 : A9) (a10 : A10) (a11 : A11) (a12 : A12) (a13 : A13) (a14 : A14), I a1 a2 a3 a4 a5 a6 a7 a8 a9 a10 a11 a12 a13 a14 → (∀ (b1 : A1) (b2 : A2) (b3 : A3) (b4 : A4) (b5 : A5) (b6 : A6) (b7 : A7) (b8 : A8) (b9 : A9) (b10 : A10) (b11 : A11) (b12 : A12) (b13 : A13) (b14 : A14), I b1 b2 b3 b4 b5 b6 b7 b8 b9 b10 b11 b12 b13 b14 → μ b1 b2 b3 b4 b5 b6 b7 b8 b9 b10 b11 b12 b13 b14 < μ a1 a2 a3 a4 a5 a6 a7 a8 a9 a10 a11 a12 a13 a14 → W n b1 b2 b3 b4 b5 b6 b7 b8 b9 b10 b11 b12 b13 b14) → W (n + 1) a1 a2 a3 a4 a5 a6 a7 a8 a9 a10 a11 a12 a13 a14) (a1 : A1) (a2 : A2) (a3 : A3) (a4 : A4) (a5 : A5) (a6 : A6) (a7 : A7) (a8 : A8) (a9 : A9) (a10 : A10) (a11 : A11) (a12 : A12) (a13 : A13) (a14 : A14) (h : I a1 a2 a3 a4 a5 a6 a7 a8 a9 a10 a11 a12 a13 a14) : ∃ n, W n a1 a2 a3 a4 a5 a6 a7 a8 a9 a10 a11 a12 a13 a14 :=
  loop_m (σ := A1 × A2 × A3 × A4 × A5 × A6 × A7 × A8 × A9 × A10 × A11 × A12 × A13 × A14) (fun n s => W n s.1 s.2.1 s.2.2.1 s.2.2.2.1 s.2.2.2.2.1 s.2.2.2.2.2.1 s.2.2.2.2.2.2.1 s.2.2.2.2.2.2.2.1 s.2.2.2.2.2.2.2.2.1 s.2.2.2.2.2.2.2.2.2.1 s.2.2.2.2.2.2.2.2.2.2.1 s.2.2.2.2.2.2.2.2.2.2.2.1 s.2.2.2.2.2.2.2.2.2.2.2.2.1 s.2.2.2.2.2.2.2.2.2.2.2.2.2) (fun s => I s.1 s.2.1 s.2.2.1 s.2.2.2.1 s.2.2.2.2.1 s.2.2.2.2.2.1 s.2.2.2.2.2.2.1 s.2.2.2.2.2.2.2.1 s.2.2.2.2.2.2.2.2.1 s.2.2.2.2.2.2.2.2.2.1 s.2.2.2.2.2.2.2.2.2.2.1 s.2.2.2.2.2.2.2.2.2.2.2.1 s.2.2.2.2.2.2.2.2.2.2.2.2.1 s.2.2.2.2.2.2.2.2.2.2.2.2.2) (fun s => μ s.1 s.2.1 s.2.2.1 s.2.2.2.1 s.2.2.2.2.1 s.2.2.2.2.2.1 s.2.2.2.2.2.2.1 s.2.2.2.2.2.2.2.1 s.2.2.2.2.2.2.2.2.1 s.2.2.2.2.2.2.2.2.2.1 s.2.2.2.2.2.2.2.2.2.2.1 s.2.2.2.2.2.2.2.2.2.2.2.1 s.2.2.2.2.2.2.2.2.2.2.2.2.1 s.2.2.2.2.2.2.2.2.2.2.2.2.2) (fun n s hI hk => hs n s.1 s.2.1 s.2.2.1 s.2.2.2.1 s.2.2.2.2.1 s.2.2.2.2.2.1 s.2.2.2.2.2.2.1 s.2.2.2.2.2.2.2.1 s.2.2.2.2.2.2.2.2.1 s.2.2.2.2.2.2.2.2.2.1 s.2.2.2.2.2.2.2.2.2.2.1 s.2.2.2.2.2.2.2.2.2.2.2.1 s.2.2.2.2.2.2.2.2.2.2.2.2.1 s.2.2.2.2.2.2.2.2.2.2.2.2.2 hI (fun b1 b2 b3 b4 b5 b6 b7 b8 b9 b10 b11 b12 b13 b14 h9 hm => hk (b1, b2, b3, b4, b5, b6, b7, b8, b9, b10, b11, b12, b13, b14) h9 hm)) (a1, a2, a3, a4, a5, a6, a7, a8, a9, a10, a11, a12, a13, a14) h
theorem lp15 {A1 A2 A3 A4 A5 A6 A7 A8 A9 A10 A11 A12 A13 A14 A15 : Type} (W : Nat → A1 → A2 → A3 → A4 → A5 → A6 → A7 → A8 → A9 → A10 → A11 → A12 → A13 → A14 → A15 → Prop) (I : A1 → A2 → A3 → A4 → A5 → A6 → A7 → A8 → A9 → A10 → A11 → A12 → A13 → A14 → A15 → Prop) (μ : A1 → A2 → A3 → A4 → A5 → A6 → A7 → A8 → A9 → A10 → A11 → A12 → A13 → A14 → A15 → Nat) (hs : ∀ (n : Nat) (a1 : A1) (a2 : A2) (a3 : A3) (a4 : A4) (a5 : A5) (a6 : A6) (a7 : A7) (a8 : A8) (a9 : A9) (a10 : A10) (a11 : A11) (a12 : A12) (a13 : A13) (a14 : A14) (a15 : A15), I a1 a2 a3 a4 a5 a6 a7 a8 a9 a10 a11 a12 a13 a14 a15 → (∀ (b1 : A1) (b2 : A2) (b3 : A3) (b4 : A4) (b5 : A5) (b6 : A6) (b7 : A7) (b8 : A8) (b9 : A9) (b10 : A10) (b11 : A11) (b12 : A12) (b13 : A13) (b14 : A14) (b15 : A15), I b1 b2 b3 b4 b5 b6 b7 b8 b9 b10 b11 b12 b13 b14 b15 → μ b1 b2 b3 b4 b5 b6 b7 b8 b9 b10 b11 b12 b13 b14 b15 < μ a1 a2 a3 a4 a5 a6 a7 a8 a9 a10 a11 a12 a13 a14 a15 → W n b1 b2 b3 b4 b5 b6 b7 b8 b9 b10 b11 b12 b13 b14 b15) → W (n + 1) a1 a2 a3 a4 a5 a6 a7 a8 a9 a10 a11 a12 a13 a14 a15) (a1 : A1) (a2 : A2) (a3 : A3) (a4 : A4) (a5 : A5) (a6 : A6) (a7 : A7) (a8 : A8) (a9 : A9) (a10 : A10) (a11 : A11) (a12 : A12) (a13 : A13) (a14 : A14) (a15 : A15) (h : I a1 a2 a3 a4 a5 a6 a7 a8 a9 a10 a11 a12 a13 a14 a15) : ∃ n, W n a1 a2 a3 a4 a5 a6 a7 a8 a9 a10 a11 a12 a13 a14 a15 :=
  loop_m (σ := A1 × A2 × A3 × A4 × A5 × A6 × A7 × A8 × A9 × A10 × A11 × A12 × A13 × A14 × A15) (fun n s => W n s.1 s.2.1 s.2.2.1 s.2.2.2.1 s.2.2.2.2.1 s.2.2.2.2.2.1 s.2.2.2.2.2.2.1 s.2.2.2.2.2.2.2.1 s.2.2.2.2.2.2.2.2.1 s.2.2.2.2.2.2.2.2.2.1 s.2.2.2.2.2.2.2.2.2.2.1 s.2.2.2.2.2.2.2.2.2.2.2.1 s.2.2.2.2.2.2.2.2.2.2.2.2.1 s.2.2.2.2.2.2.2.2.2.2.2.2.2.1 s.2.2.2.2.2.2.2.2.2.2.2.2.2.2) (fun s => I s.1 s.2.1 s.2.2.1 s.2.2.2.1 s.2.2.2.2.1 s.2.2.2.2.2.1 s.2.2.2.2.2.2.1 s.2.2.2.2.2.2.2.1 s.2.2.2.2.2.2.2.2.1 s.2.2.2.2.2.2.2.2.2.1 s.2.2.2.2.2.2.2.2.2.2.1 s.2.2.2.2.2.2.2.2.2.2.2.1 s.2.2.2.2.2.2.2.2.2.2.2.2.1 s.2.2.2.2.2.2.2.2.2.2.2.2.2.1 s.2.2.2.2.2.2.2.2.2.2.2.2.2.2) (fun s => μ s.1 s.2.1 s.2.2.1 s.2.2.2.1 s.2.2.2.2.1 s.2.2.2.2.2.1 s.2.2.2.2.2.2.1 s.2.2.2.2.2.2.2.1 s.2.2.2.2.2.2.2.2.1 s.2.2.2.2.2.2.2.2.2.1 s.2.2.2.2.2.2.2.2.2.2.1 s.2.2.2.2.2.2.2.2.2.2.2.1 s.2.2.2.2.2.2.2.2.2.2.2.2.1 s.2.2.2.2.2.2.2.2.2.2.2.2.2.1 s.2.2.2.2.2.2.2.2.2.2.2.2.2.2) (fun n s hI hk => hs n s.1 s.2.1 s.2.2.1 s.2.2.2.1 s.2.2.2.2.1 s.2.2.2.2.2.1 s.2.2.2.2.2.2.1 s.2.2.2.2.2.2.2.1 s.2.2.2.2.2.2.2.2.1 s.2.2.2.2.2.2.2.2.2.1 s.2.2.2.2.2.2.2.2.2.2.1 s.2.2.2.2.2.2.2.2.2.2.2.1 s.2.2.2.2.2.2.2.2.2.2.2.2.1 s.2.2.2.2.2.2.2.2.2.2.2.2.2.1 s.2.2.2.2.2.2.2.2.2.2.2.2.2.2 hI (fun b1 b2 b3 b4 b5 b6 b7 b8 b9 b10 b11 b12 b13 b14 b15 h9 hm => hk (b1, b2, b3, b4, b5, b6, b7, b8, b9, b10, b11, b12, b13, b14, b15) h9 hm)) (a1, a2, a3, a4, a5, a6, a7, a8, a9, a10, a11, a12, a13, a14, a15) h
theorem lp16 {A1 A2 A3 A4 A5 A6 A7 A8 A9 A10 A11 A12 A13 A14 A15 A16 : Type} (W : Nat → A1 → A2 → A3 → A4 → A5 → A6 → A7 → A8 → A9 → A10 → A11 → A12 → A13 → A14 → A15 → A16 → Prop) (I : A1 → A2 → A3 → A4 → A5 → A6 → A7 → A8 → A9 → A10 → A11 → A12 → A13 → A14 → A15 → A16 → Prop) (μ : A1 → A2 → A3 → A4 → A5 → A6 → A7 → A8 → A9 → A10 → A11 → A12 → A13 → A14 → A15 → A16 → Nat) (hs : ∀ (n : Nat) (a1 : A1) (a2 : A2) (a3 : A3) (a4 : A4) (a5 : A5) (a6 : A6) (a7 : A7) (a8 : A8) (a9 : A9) (a10 : A10) (a11 : A11) (a12 : A12) (a13 : A13) (a14 : A14) (a15 : A15) (a16 : A16), I a1 a2 a3 a4 a5 a6 a7 a8 a9 a10 a11 a12 a13 a14 a15 a16 → (∀ (b1 : A1) (b2 : A2) (b3 : A3) (b4 : A4) (b5 : A5) (b6 : A6) (b7 : A7) (b8 : A8) (b9 : A9) (b10 : A10) (b11 : A11) (b12 : A12) (b13 : A13) (b14 : A14) (b15 : A15) (b16 : A16), I b1 b2 b3 b4 b5 b6 b7 b8 b9 b10 b11 b12 b13 b14 b15 b16 → μ b1 b2 b3 b4 b5 b6 b7 b8 b9 b10 b11 b12 b13 b14 b15 b16 < μ a1 a2 a3 a4 a5 a6 a7 a8 a9 a10 a11 a12 a13 a14 a15 a16 → W n b1 b2 b3 b4 b5 b6 b7 b8 b9 b10 b11 b12 b13 b14 b15 b16) → W (n + 1) a1 a2 a3 a4 a5 a6 a7 a8 a9 a10 a11 a12 a13 a14 a15 a16) (a1 : A1) (a2 : A2) (a3 : A3) (a4 : A4) (a5 : A5) (a6 : A6) (a7 : A7) (a8 : A8) (a9 : A9) (a10 : A10) (a11 : A11) (a12 : A12) (a13 : A13) (a14 : A14) (a15 : A15) (a16 : A16) (h : I a1 a2 a3 a4 a5 a6 a7 a8 a9 a10 a11 a12 a13 a14 a15 a16) : ∃ n, W n a1 a2 a3 a4 a5 a6 a7 a8 a9 a10 a11 a12 a13 a14 a15 a16 :=
  loop_m (σ := A1 × A2 × A3 × A4 × A5 × A6 × A7 × A8 × A9 × A10 × A11 × A12 × A13 × A14 × A15 × A16) (fun n s => W n s.1 s.2.1 s.2.2.1 s.2.2.2.1 s.2.2.2.2.1 s.2.2.2.2.2.1 s.2.2.2.2.2.2.1 s.2.2.2.2.2.2.2.1 s.2.2.2.2.2.2.2.2.1 s.2.2.2.2.2.2.2.2.2.1 s.2.2.2.2.2.2.2.2.2.2.1 s.2.2.2.2.2.2.2.2.2.2.2.1 s.2.2.2.2.2.2.2.2.2.2.2.2.1 s.2.2.2.2.2.2.2.2.2.2.2.2.2.1 s.2.2.2.2.2.2.2.2.2.2.2.2.2.2.1 s.2.2.2.2.2.2.2.2.2.2.2.2.2.2.2) (fun s => I s.1 s.2.1 s.2.2.1 s.2.2.2.1 s.2.2.2.2.1 s.2.2.2.2.2.1 s.2.2.2.2.2.2.1 s.2.2.2.2.2.2.2.1 s.2.2.2.2.2.2.2.2.1 s.2.2.2.2.2.2.2.2.2.1 s.2.2.2.2.2.2.2.2.2.2.1 s.2.2.2.2.2.2.2.2.2.2.2.1 s.2.2.2.2.2.2.2.2.2.2.2.2.1 s.2.2.2.2.2.2.2.2.2.2.2.2.2.1 s.2.2.2.2.2.2.2.2.2.2.2.2.2.2.1 s.2.2.2.2.2.2.2.2.2.2.2.2.2.2.2) (fun s => μ s.1 s.2.1 s.2.2.1 s.2.2.2.1 s.2.2.2.2.1 s.2.2.2.2.2.1 s.2.2.2.2.2.2.1 s.2.2.2.2.2.2.2.1 s.2.2.2.2.2.2.2.2.1 s.2.2.2.2.2.2.2.2.2.1 s.2.2.2.2.2.2.2.2.2.2.1 s.2.2.2.2.2.2.2.2.2.2.2.1 s.2.2.2.2.2.2.2.2.2.2.2.2.1 s.2.2.2.2.2.2.2.2.2.2.2.2.2.1 s.2.2.2.2.2.2.2.2.2.2.2.2.2.2.1 s.2.2.2.2.2.2.2.2.2.2.2.2.2.2.2) (fun n s hI hk => hs n s.1 s.2.1 s.2.2.1 s.2.2.2.1 s.2.2.2.2.1 s.2.2.2.2.2.1 s.2.2.2.2.2.2.1 s.2.2.2.2.2.2.2.1 s.2.2.2.2.2.2.2.2.1 s.2.2.2.2.2.2.2.2.2.1 s.2.2.2.2.2.2.2.2.2.2.1 s.2.2.2.2.2.2.2.2.2.2.2.1 s.2.2.2.2.2.2.2.2.2.2.2.2.1 s.2.2.2.2.2.2.2.2.2.2.2.2.2.1 s.2.2.2.2.2.2.2.2.2.2.2.2.2.2.1 s.2.2.2.2.2.2.2.2.2.2.2.2.2.2.2 hI (fun b1 b2 b3 b4 b5 b6 b7 b8 b9 b10 b11 b12 b13 b14 b15 b16 h9 hm => hk (b1, b2, b3, b4, b5, b6, b7, b8, b9, b10, b11, b12, b13, b14, b15, b16) h9 hm)) (a1, a2, a3, a4, a5, a6, a7, a8, a9, a10, a11, a12, a13, a14, a15, a16) h
theorem pk_least (P : Nat → Prop) (h : ∃ k, P k) : ∃ k, P k ∧ ∀ j, j < k → ¬ P j := by
  obtain ⟨k, hk⟩ := h
  induction k using Nat.strongRecOn with
  | ind k ih =>
    by_cases e : ∃ j, j < k ∧ P j
    · obtain ⟨j, hj, pj⟩ := e
      exact ih j hj pj
    · exact ⟨k, hk, fun j hj pj => e ⟨j, hj, pj⟩⟩
theorem rp1 {ρ A1 : Type} (W : Nat → (ρ → Prop) → A1 → Prop) (ok : A1 → Prop) (μ : A1 → Nat) (val : A1 → ρ)
    (hs : ∀ (d : Nat) (post : ρ → Prop) (a1 : A1), ok a1 → post (val a1) → (∀ (post' : ρ → Prop) (b1 : A1), ok b1 → μ b1 < μ a1 → post' (val b1) → W d post' b1) → W (d + 1) post a1) :
    ∀ (d : Nat) (post : ρ → Prop) (a1 : A1), ok a1 → μ a1 < d → post (val a1) → W d post a1 := by
  intro d
  induction d with
  | zero => intro post a1 _ h; omega
  | succ d ih =>
    intro post a1 ho hm hp
    exact hs d post a1 ho hp (fun post' b1 ho' hm' hp' => ih post' b1 ho' (by omega) hp')
theorem rp2 {ρ A1 A2 : Type} (W : Nat → (ρ → Prop) → A1 → A2 → Prop) (ok : A1 → A2 → Prop) (μ : A1 → A2 → Nat) (val : A1 → A2 → ρ)
    (hs : ∀ (d : Nat) (post : ρ → Prop) (a1 : A1) (a2 : A2), ok a1 a2 → post (val a1 a2) → (∀ (post' : ρ → Prop) (b1 : A1) (b2 : A2), ok b1 b2 → μ b1 b2 < μ a1 a2 → post' (val b1 b2) → W d post' b1 b2) → W (d + 1) post a1 a2) :
    ∀ (d : Nat) (post : ρ → Prop) (a1 : A1) (a2 : A2), ok a1 a2 → μ a1 a2 < d → post (val a1 a2) → W d post a1 a2 := by
  intro d
  induction d with
  | zero => intro post a1 a2 _ h; omega
  | succ d ih =>
    intro post a1 a2 ho hm hp
    exact hs d post a1 a2 ho hp (fun post' b1 b2 ho' hm' hp' => ih post' b1 b2 ho' (by omega) hp')
theorem rp3 {ρ A1 A2 A3 : Type} (W : Nat → (ρ → Prop) → A1 → A2 → A3 → Prop) (ok : A1 → A2 → A3 → Prop) (μ : A1 → A2 → A3 → Nat) (val : A1 → A2 → A3 → ρ)
    (hs : ∀ (d : Nat) (post : ρ → Prop) (a1 : A1) (a2 : A2) (a3 : A3), ok a1 a2 a3 → post (val a1 a2 a3) → (∀ (post' : ρ → Prop) (b1 : A1) (b2 : A2) (b3 : A3), ok b1 b2 b3 → μ b1 b2 b3 < μ a1 a2 a3 → post' (val b1 b2 b3) → W d post' b1 b2 b3) → W (d + 1) post a1 a2 a3) :
    ∀ (d : Nat) (post : ρ → Prop) (a1 : A1) (a2 : A2) (a3 : A3), ok a1 a2 a3 → μ a1 a2 a3 < d → post (val a1 a2 a3) → W d post a1 a2 a3 := by
  intro d
  induction d with
  | zero => intro post a1 a2 a3 _ h; omega
  | succ d ih =>
    intro post a1 a2 a3 ho hm hp
    exact hs d post a1 a2 a3 ho hp (fun post' b1 b2 b3 ho' hm' hp' => ih post' b1 b2 b3 ho' (by omega) hp')
theorem rp4 {ρ A1 A2 A3 A4 : Type} (W : Nat → (ρ → Prop) → A1 → A2 → A3 → A4 → Prop) (ok : A1 → A2 → A3 → A4 → Prop) (μ : A1 → A2 → A3 → A4 → Nat) (val : A1 → A2 → A3 → A4 → ρ)
    (hs : ∀ (d : Nat) (post : ρ → Prop) (a1 : A1) (a2 : A2) (a3 : A3) (a4 : A4), ok a1 a2 a3 a4 → post (val a1 a2 a3 a4) → (∀ (post' : ρ → Prop) (b1 : A1) (b2 : A2) (b3 : A3) (b4 : A4), ok b1 b2 b3 b4 → μ b1 b2 b3 b4 < μ a1 a2 a3 a4 → post' (val b1 b2 b3 b4) → W d post' b1 b2 b3 b4) → W (d + 1) post a1 a2 a3 a4) :
    ∀ (d : Nat) (post : ρ → Prop) (a1 : A1) (a2 : A2) (a3 : A3) (a4 : A4), ok a1 a2 a3 a4 → μ a1 a2 a3 a4 < d → post (val a1 a2 a3 a4) → W d post a1 a2 a3 a4 := by
  intro d
  induction d with
  | zero => intro post a1 a2 a3 a4 _ h; omega
  | succ d ih =>
    intro post a1 a2 a3 a4 ho hm hp
    exact hs d post a1 a2 a3 a4 ho hp (fun post' b1 b2 b3 b4 ho' hm' hp' => ih post' b1 b2 b3 b4 ho' (by omega) hp')
theorem rp5 {ρ A1 A2 A3 A4 A5 : Type} (W : Nat → (ρ → Prop) → A1 → A2 → A3 → A4 → A5 → Prop) (ok : A1 → A2 → A3 → A4 → A5 → Prop) (μ : A1 → A2 → A3 → A4 → A5 → Nat) (val : A1 → A2 → A3 → A4 → A5 → ρ)
    (hs : ∀ (d : Nat) (post : ρ → Prop) (a1 : A1) (a2 : A2) (a3 : A3) (a4 : A4) (a5 : A5), ok a1 a2 a3 a4 a5 → post (val a1 a2 a3 a4 a5) → (∀ (post' : ρ → Prop) (b1 : A1) (b2 : A2) (b3 : A3) (b4 : A4) (b5 : A5), ok b1 b2 b3 b4 b5 → μ b1 b2 b3 b4 b5 < μ a1 a2 a3 a4 a5 → post' (val b1 b2 b3 b4 b5) → W d post' b1 b2 b3 b4 b5) → W (d + 1) post a1 a2 a3 a4 a5) :
    ∀ (d : Nat) (post : ρ → Prop) (a1 : A1) (a2 : A2) (a3 : A3) (a4 : A4) (a5 : A5), ok a1 a2 a3 a4 a5 → μ a1 a2 a3 a4 a5 < d → post (val a1 a2 a3 a4 a5) → W d post a1 a2 a3 a4 a5 := by
  intro d
  induction d with
  | zero => intro post a1 a2 a3 a4 a5 _ h; omega
  | succ d ih =>
    intro post a1 a2 a3 a4 a5 ho hm hp
    exact hs d post a1 a2 a3 a4 a5 ho hp (fun post' b1 b2 b3 b4 b5 ho' hm' hp' => ih post' b1 b2 b3 b4 b5 ho' (by omega) hp')
theorem rp6 {ρ A1 A2 A3 A4 A5 A6 : Type} (W : Nat → (ρ → Prop) → A1 → A2 → A3 → A4 → A5 → A6 → Prop) (ok : A1 → A2 → A3 → A4 → A5 → A6 → Prop) (μ : A1 → A2 → A3 → A4 → A5 → A6 → Nat) (val : A1 → A2 → A3 → A4 → A5 → A6 → ρ)
    (hs : ∀ (d : Nat) (post : ρ → Prop) (a1 : A1) (a2 : A2) (a3 : A3) (a4 : A4) (a5 : A5) (a6 : A6), ok a1 a2 a3 a4 a5 a6 → post (val a1 a2 a3 a4 a5 a6) → (∀ (post' : ρ → Prop) (b1 : A1) (b2 : A2) (b3 : A3) (b4 : A4) (b5 : A5) (b6 : A6), ok b1 b2 b3 b4 b5 b6 → μ b1 b2 b3 b4 b5 b6 < μ a1 a2 a3 a4 a5 a6 → post' (val b1 b2 b3 b4 b5 b6) → W d post' b1 b2 b3 b4 b5 b6) → W (d + 1) post a1 a2 a3 a4 a5 a6) :
    ∀ (d : Nat) (post : ρ → Prop) (a1 : A1) (a2 : A2) (a3 : A3) (a4 : A4) (a5 : A5) (a6 : A6), ok a1 a2 a3 a4 a5 a6 → μ a1 a2 a3 a4 a5 a6 < d → post (val a1 a2 a3 a4 a5 a6) → W d post a1 a2 a3 a4 a5 a6 := by
  intro d
  induction d with
  | zero => intro post a1 a2 a3 a4 a5 a6 _ h; omega
  | succ d ih =>
    intro post a1 a2 a3 a4 a5 a6 ho hm hp
    exact hs d post a1 a2 a3 a4 a5 a6 ho hp (fun post' b1 b2 b3 b4 b5 b6 ho' hm' hp' => ih post' b1 b2 b3 b4 b5 b6 ho' (by omega) hp')
theorem rec_p {σ ρ : Type} (W : Nat → (ρ → Prop) → σ → Prop) (ok : σ → Prop) (μ : σ → Nat) (val : σ → ρ)
    (hs : ∀ d s post, ok s → post (val s) → (∀ s' post', ok s' → μ s' < μ s → post' (val s') → W d post' s') → W (d + 1) post s) :
    ∀ d s post, ok s → μ s < d → post (val s) → W d post s := by
  intro d
  induction d with
  | zero => intro s post _ h; omega
  | succ d ih =>
    intro s post ho hm hp
    exact hs d s post ho hp (fun s' post' ho' hm' hp' => ih s' post' ho' (by omega) hp')
theorem rec_q {σ ρ : Type} (W : Nat → (ρ → Prop) → σ → Prop) (ok : σ → Prop) (μ : σ → Nat) (Q : σ → ρ → Prop)
    (hs : ∀ d s post, ok s → (∀ r, Q s r → post r) → (∀ s' post', ok s' → μ s' < μ s → (∀ r, Q s' r → post' r) → W d post' s') → W (d + 1) post s) :
    ∀ d s post, ok s → μ s < d → (∀ r, Q s r → post r) → W d post s := by
  intro d
  induction d with
  | zero => intro s post _ h; omega
  | succ d ih =>
    intro s post ho hm hp
    exact hs d s post ho hp (fun s' post' ho' hm' hp' => ih s' post' ho' (by omega) hp')
def bx_sum (f : Nat → Int32) : Nat → Int32
  | 0 => 0
  | n + 1 => bx_sum f n + f n
theorem ek_u {A : Prop} {B : Nat → Prop} {k N : Nat} (hk : k < N) (h : B k) : (some k = none → A) ∧ (∀ y : Nat, some k = some y → (y < N ∧ B y)) :=
  ⟨fun z => absurd z (Option.some_ne_none k), fun _ e => (by cases e; exact ⟨hk, h⟩)⟩
theorem ek_nu {A : Prop} {B : Nat → Prop} (h : A) : ((none : Option Nat) = none → A) ∧ (∀ y : Nat, (none : Option Nat) = some y → B y) :=
  ⟨fun _ => h, fun _ e => (by cases e)⟩
theorem ek_if {c d A B : Prop} (e : c ↔ d) (f : d → A) (g : ¬ d → B) : (c → A) ∧ (¬ c → B) :=
  ⟨fun z => f (e.mp z), fun z => g (fun y => z (e.mpr y))⟩
theorem ek_v {α : Sort _} {P : α → Prop} {a b : α} (e : a = b) (h : P b) : P a := e ▸ h
theorem co_some {x : Option Nat} {A : Prop} {B : Nat → Prop} (i : Nat) (h : B i) (hx : x = some i := by rfl) : (x = none → A) ∧ (∀ y : Nat, x = some y → B y) := by
  subst hx
  exact ⟨fun e => (nomatch e), fun y e => Option.some.inj e ▸ h⟩
theorem co_none {x : Option Nat} {A : Prop} {B : Nat → Prop} (h : A) (hx : x = none := by rfl) : (x = none → A) ∧ (∀ y : Nat, x = some y → B y) := by
  subst hx
  exact ⟨fun _ => h, fun y e => (nomatch e)⟩
theorem co_any {x : Option Nat} {A : Prop} {B : Nat → Prop} (hn : x = none → A) (hs : ∀ i : Nat, x = some i → B i) : (x = none → A) ∧ (∀ y : Nat, x = some y → B y) := ⟨hn, hs⟩
theorem co_2 {P : Nat → Prop} (h0 : P 0) (h1 : P 1) {i : Nat} (hi : i < 2) : P i :=
  match i, hi with
  | 0, _ => h0
  | 1, _ => h1
theorem co_3 {P : Nat → Prop} (h0 : P 0) (h1 : P 1) (h2 : P 2) {i : Nat} (hi : i < 3) : P i :=
  match i, hi with
  | 0, _ => h0
  | 1, _ => h1
  | 2, _ => h2
theorem co_4 {P : Nat → Prop} (h0 : P 0) (h1 : P 1) (h2 : P 2) (h3 : P 3) {i : Nat} (hi : i < 4) : P i :=
  match i, hi with
  | 0, _ => h0
  | 1, _ => h1
  | 2, _ => h2
  | 3, _ => h3
theorem co_dec {N : Nat} {P : Nat → Prop} [DecidablePred P] (h : (List.range N).all (fun i => decide (P i)) = true) {i : Nat} (hi : i < N) : P i := by
  have := List.all_eq_true.mp h i (List.mem_range.mpr hi)
  exact of_decide_eq_true this
theorem co_tab {α : Type} {l : List α} {d : α} {P : α → Prop} (h : ∀ a, a ∈ l → P a) {i : Nat} (hi : i < l.length) : P (l.getD i d) := by
  rw [List.getD_eq_getElem?_getD, List.getElem?_eq_getElem hi]
  exact h _ (List.getElem_mem hi)
theorem pk_mu {x : Int32} {L : Nat} (h0 : ¬ x < 0) (h : ¬ nI L ≤ x) (hL : L < 2 ^ 31) : ∃ j : Nat, j < L ∧ x = nI j ∧ x + 1 = nI (j + 1) ∧ x.toNatClampNeg = j ∧ L - (x + 1).toNatClampNeg < L - x.toNatClampNeg := by
  obtain ⟨j, hj, rfl⟩ := nI_of h0
  have hl : j < L := Nat.not_le.mp fun q => h (nI_le q hj)
  refine ⟨j, hl, rfl, nI_1 j, nI_clamp hj, ?_⟩
  rw [nI_1, nI_clamp (by omega), nI_clamp hj]
  omega
theorem op_s {α : Type} {r : Option α} {A : Prop} {B : α → Prop} {y : α} (h : r = some y) (b : B y) : (r = none → A) ∧ ∀ z, r = some z → B z :=
  ⟨fun e => (by rw [h] at e; cases e), fun z e => (by rw [h] at e; cases e; exact b)⟩
def l_holds {α : Type} (a : Nat → Option Nat) (LP : List Nat) (p : Nat → α) (c : Nat) (b : Nat → α) : Prop :=
  ∀ j, j < c → ∃ y, a j = some y ∧ y ∈ LP ∧ p y = b j
theorem l_holds_0 {α : Type} {a : Nat → Option Nat} {LP : List Nat} {p b : Nat → α} : l_holds a LP p 0 b := fun j h => absurd h (Nat.not_lt_zero j)
theorem l_in_new (LP : List Nat) (q : Nat) : q ∈ LP ++ [q] := List.mem_append.mpr (Or.inr (List.mem_singleton.mpr rfl))
def l_sum (b : Nat → Int32) : Nat → Int32
  | 0 => 0
  | k + 1 => l_sum b k + b k
theorem sb_shr0 (x : Int32) : x >>> ((0 : Int32) &&& 31) = x := by
  rw [show ((0 : Int32) &&& 31) = 0 by decide]
  simp
theorem sb_shl0 (x : Int32) : x <<< ((0 : Int32) &&& 31) = x := by
  rw [show ((0 : Int32) &&& 31) = 0 by decide]
  simp
theorem sb_cl0 : (0 : Int32).toNatClampNeg = 0 := by decide
theorem sb_m1 {p : Nat} (h : 0 < p) : nI p + (-1) = nI (p - 1) := by
  obtain ⟨q, rfl⟩ : ∃ q, p = q + 1 := ⟨p - 1, by omega⟩
  exact pk_m1 q
def sb_b (c : Nat) : Int32 := (nI c).toInt8.toInt32
theorem sb_byte : ∀ c, c < 256 → sb_b c &&& 255 = nI c ∧ ((nI c).toUInt32 % 65536).toInt32 = nI c ∧ nI c ≤ 255 := by decide +kernel
def sb_Fit (a : Nat → Int32) : Prop := ∀ j, fits .byte (.int (a j)) = true
def sb_Lat (t : Nat → Nat) (n : Nat) (a : Nat → Int32) : Prop := ∀ j, j < n → t j < 256 ∧ a j = sb_b (t j)
theorem sb_fitB (c : Nat) : fits .byte (.int (sb_b c)) = true := pk_fb _
theorem sb_fit0 : sb_Fit (fun _ => 0) := fun _ => by
  show fits .byte (.int 0) = true
  decide
theorem sb_fitU {a : Nat → Int32} {k : Nat} {x : Int32} (h : sb_Fit a) (hx : fits .byte (.int x) = true) : sb_Fit (upd a k x) := by
  intro j
  by_cases e : j = k
  · subst e
    rw [pk_us]
    exact hx
  · rw [pk_un e]
    exact h j
def sb_cat (t : Nat → Nat) (n : Nat) (s : Nat → Nat) : Nat → Nat := fun j => if j < n then t j else s (j - n)
theorem sb_cat_lo {t s : Nat → Nat} {n j : Nat} (h : j < n) : sb_cat t n s j = t j := if_pos h
theorem sb_cat_hi {t s : Nat → Nat} {n j : Nat} : sb_cat t n s (n + j) = s j := by
  show (if n + j < n then t (n + j) else s (n + j - n)) = s j
  rw [if_neg (by omega), Nat.add_sub_cancel_left]
theorem sb_latPut {t s : Nat → Nat} {n w : Nat} {a a' : Nat → Int32} (h : sb_Lat t n a) (hk : ∀ j, j < n → a' j = a j) (hs : ∀ i, i < w → s i < 256 ∧ a' (n + i) = sb_b (s i)) : sb_Lat (sb_cat t n s) (n + w) a' := by
  intro j hj
  by_cases e : j < n
  · rw [sb_cat_lo e, hk j e]
    exact h j e
  · obtain ⟨i, rfl⟩ : ∃ i, j = n + i := ⟨j - n, by omega⟩
    rw [sb_cat_hi]
    exact hs i (by omega)
theorem sb_latKeep {t : Nat → Nat} {n : Nat} {a a' : Nat → Int32} (h : sb_Lat t n a) (hk : ∀ j, j < n → a' j = a j) : sb_Lat t n a' := fun j hj => by
  rw [hk j hj]
  exact h j hj
def sb_cap (q m : Nat) : Nat := if q ≤ m then m else if 2 * m + 2 < q then q else 2 * m + 2
def sb_Room (q m mc ms : Nat) : Prop := q ≤ m ∨ (1 ≤ mc ∧ sb_cap q m ≤ ms ∧ sb_cap q m ≤ 65536)
theorem sb_cap_ge (q m : Nat) : q ≤ sb_cap q m := by
  unfold sb_cap
  split
  · omega
  · split <;> omega
theorem sb_cap_gem (q m : Nat) : m ≤ sb_cap q m := by
  unfold sb_cap
  split
  · omega
  · split <;> omega
theorem sb_cap_le {q m mc ms : Nat} (hm : m ≤ 65536) (hr : sb_Room q m mc ms) : sb_cap q m ≤ 65536 := by
  rcases hr with h | h
  · rw [sb_cap, if_pos h]
    exact hm
  · exact h.2.2
theorem sb_at {P : Int32 → Prop} {x y : Int32} (e : x = y) (h : P y) : P x := e ▸ h
def sb_dg (w : Nat) : Nat := if w < 10 then 1 else if w < 100 then 2 else if w < 1000 then 3 else if w < 10000 then 4 else if w < 100000 then 5 else if w < 1000000 then 6 else if w < 10000000 then 7 else if w < 100000000 then 8 else if w < 1000000000 then 9 else 10
def sb_dec (v : Nat) : Nat → Nat := fun i => 48 + v / 10 ^ (sb_dg v - 1 - i) % 10
theorem sb_dg_in (w : Nat) : 1 ≤ sb_dg w ∧ sb_dg w ≤ 10 := by
  unfold sb_dg
  constructor <;> (repeat' split) <;> omega
theorem sb_dg100 {w : Nat} (h : 100 ≤ w) (hw : w < 2 ^ 31) : sb_dg w = sb_dg (w / 100) + 2 := by
  rw [sb_dg, sb_dg, if_neg (show ¬ w < 10 by omega), if_neg (show ¬ w < 100 by omega)]
  by_cases h3 : w < 1000
  · rw [if_pos h3, if_pos (show w / 100 < 10 by omega)]
  rw [if_neg h3, if_neg (show ¬ w / 100 < 10 by omega)]
  by_cases h4 : w < 10000
  · rw [if_pos h4, if_pos (show w / 100 < 100 by omega)]
  rw [if_neg h4, if_neg (show ¬ w / 100 < 100 by omega)]
  by_cases h5 : w < 100000
  · rw [if_pos h5, if_pos (show w / 100 < 1000 by omega)]
  rw [if_neg h5, if_neg (show ¬ w / 100 < 1000 by omega)]
  by_cases h6 : w < 1000000
  · rw [if_pos h6, if_pos (show w / 100 < 10000 by omega)]
  rw [if_neg h6, if_neg (show ¬ w / 100 < 10000 by omega)]
  by_cases h7 : w < 10000000
  · rw [if_pos h7, if_pos (show w / 100 < 100000 by omega)]
  rw [if_neg h7, if_neg (show ¬ w / 100 < 100000 by omega)]
  by_cases h8 : w < 100000000
  · rw [if_pos h8, if_pos (show w / 100 < 1000000 by omega)]
  rw [if_neg h8, if_neg (show ¬ w / 100 < 1000000 by omega)]
  by_cases h9 : w < 1000000000
  · rw [if_pos h9, if_pos (show w / 100 < 10000000 by omega)]
  rw [if_neg h9, if_neg (show ¬ w / 100 < 10000000 by omega)]
  rw [if_pos (show w / 100 < 100000000 by omega)]
theorem sb_negT {w : Nat} (h : w < 2 ^ 31) : (-nI w).toInt = -(w : Int) := by
  rw [Int32.toInt_neg, nI_toInt h]
  exact Int.bmod_eq_of_le (by omega) (by omega)
theorem sb_nle {a b : Nat} (ha : a < 2 ^ 31) (hb : b < 2 ^ 31) : -nI a ≤ -nI b ↔ b ≤ a := by
  rw [Int32.le_iff_toInt_le, sb_negT ha, sb_negT hb]
  omega
theorem sb_nlt {a b : Nat} (ha : a < 2 ^ 31) (hb : b < 2 ^ 31) : -nI a < -nI b ↔ b < a := by
  rw [Int32.lt_iff_toInt_lt, sb_negT ha, sb_negT hb]
  omega
theorem sb_cmp {A B : Prop} {x : Int32} (v c : Nat) (f : c ≤ v → A) (g : v < c → B) (hv : v < 2 ^ 31) (hx : x = -nI c := by rfl) (hc : c < 2 ^ 31 := by omega) : (-nI v ≤ x → A) ∧ (¬ -nI v ≤ x → B) := by
  subst hx
  rw [sb_nle hv hc]
  exact ⟨f, fun z => g (by omega)⟩
theorem sb_ndiv {w : Nat} (hw : w < 2 ^ 31) : (-nI w) / 100 = -nI (w / 100) := by
  apply Int32.toInt_inj.mp
  have h100 : (100 : Int32).toInt = 100 := by decide
  rw [Int32.toInt_div, sb_negT hw, h100, sb_negT (by omega), Int.neg_tdiv, Int.tdiv_eq_ediv_of_nonneg (by omega), Int.bmod_eq_of_le (by omega) (by omega)]
  omega
theorem sb_nrem {w : Nat} (hw : w < 2 ^ 31) : (-nI (w / 100)) * 100 - (-nI w) = nI (w % 100) := by
  have h := pk_rem (a := w) (d := 100) hw (by decide) (by decide)
  rw [pk_div hw (by decide) (by decide)] at h
  rw [← h]
  show (-nI (w / 100)) * nI 100 - (-nI w) = nI w - nI (w / 100) * nI 100
  rw [Int32.neg_mul, Int32.sub_neg, Int32.add_comm, ← Int32.sub_eq_add_neg]
end
section
/-! rows on bits, shifts and unsigned numbers, to paste: each family out of a closed proof of our own, whole with what it rests on; each by itself clean at Lean in its own claim (generation 39, form 5). Take a family whole -/
/-! ===== Int32 by its bits: bt x i ===== -/
def bt (x : Int32) (i : Nat) : Bool := x.toBitVec.getLsbD i
theorem b_ext {x y : Int32} (h : ∀ i, i < 32 → bt x i = bt y i) : x = y := Int32.toBitVec_inj.mp (BitVec.eq_of_getLsbD_eq (fun i hi => h i hi))
theorem b_or (x y : Int32) (i : Nat) : bt (x ||| y) i = (bt x i || bt y i) := by unfold bt; rw [Int32.toBitVec_or, BitVec.getLsbD_or]
theorem b_and (x y : Int32) (i : Nat) : bt (x &&& y) i = (bt x i && bt y i) := by unfold bt; rw [Int32.toBitVec_and, BitVec.getLsbD_and]
theorem b_xor (x y : Int32) (i : Nat) : bt (x ^^^ y) i = (bt x i ^^ bt y i) := by unfold bt; rw [Int32.toBitVec_xor, BitVec.getLsbD_xor]
theorem b_big {x : Int32} {i : Nat} (h : 32 ≤ i) : bt x i = false := BitVec.getLsbD_of_ge _ _ h
theorem b_255 (i : Nat) : bt 255 i = decide (i < 8) := by
  rcases Nat.lt_or_ge i 32 with h | h
  · exact (by decide +kernel : ∀ i, i < 32 → bt 255 i = decide (i < 8)) i h
  · rw [b_big h, decide_eq_false (by omega)]
theorem b_65535 (i : Nat) : bt 65535 i = decide (i < 16) := by
  rcases Nat.lt_or_ge i 32 with h | h
  · exact (by decide +kernel : ∀ i, i < 32 → bt 65535 i = decide (i < 16)) i h
  · rw [b_big h, decide_eq_false (by omega)]
theorem b_m1 : ∀ i, i < 32 → bt (-1) i = true := by decide +kernel
theorem b_0 (i : Nat) : bt 0 i = false := BitVec.getLsbD_zero
theorem s_l : ∀ n, n < 32 → ((nI n &&& 31).toBitVec.smod 32).toNat = n := by decide +kernel
theorem s_u : ∀ n, n < 32 → (((nI n).toUInt32 &&& Int32.toUInt32 31).toBitVec % 32).toNat = n := by decide +kernel
theorem b_shl (n : Nat) (hn : n < 32) (x : Int32) {i : Nat} (hi : i < 32) : bt (x <<< (nI n &&& 31)) i = (decide (n ≤ i) && bt x (i - n)) := by
  unfold bt
  rw [Int32.toBitVec_shiftLeft]
  show (x.toBitVec <<< ((nI n &&& 31).toBitVec.smod 32).toNat).getLsbD i = _
  rw [s_l n hn, BitVec.getLsbD_shiftLeft]
  rcases Nat.lt_or_ge i n with h | h
  · simp [h, Nat.not_le.mpr h]
  · simp [hi, h, Nat.not_lt.mpr h]
theorem b_ushr (n : Nat) (hn : n < 32) (x : Int32) (i : Nat) : bt ((x.toUInt32 >>> ((nI n).toUInt32 &&& Int32.toUInt32 31)).toInt32) i = bt x (n + i) := by
  show (x.toUInt32 >>> ((nI n).toUInt32 &&& Int32.toUInt32 31)).toBitVec.getLsbD i = x.toUInt32.toBitVec.getLsbD (n + i)
  rw [UInt32.toBitVec_shiftRight]
  show (x.toUInt32.toBitVec >>> (((nI n).toUInt32 &&& Int32.toUInt32 31).toBitVec % 32).toNat).getLsbD i = _
  rw [s_u n hn, BitVec.getLsbD_ushiftRight]
theorem b_sshr (n : Nat) (hn : n < 32) (x : Int32) {i : Nat} (hi : i < 32) : bt (x >>> (nI n &&& 31)) i = if n + i < 32 then bt x (n + i) else bt x 31 := by
  unfold bt
  rw [Int32.toBitVec_shiftRight]
  show (x.toBitVec.sshiftRight ((nI n &&& 31).toBitVec.smod 32).toNat).getLsbD i = _
  rw [s_l n hn, BitVec.getLsbD_sshiftRight, BitVec.msb_eq_getLsbD_last]
  simp [hi]
theorem b_shl8 (x : Int32) {i : Nat} (hi : i < 32) : bt (x <<< ((8 : Int32) &&& 31)) i = (decide (8 ≤ i) && bt x (i - 8)) := b_shl 8 (by omega) x hi
theorem b_shl16 (x : Int32) {i : Nat} (hi : i < 32) : bt (x <<< ((16 : Int32) &&& 31)) i = (decide (16 ≤ i) && bt x (i - 16)) := b_shl 16 (by omega) x hi
theorem b_shl24 (x : Int32) {i : Nat} (hi : i < 32) : bt (x <<< ((24 : Int32) &&& 31)) i = (decide (24 ≤ i) && bt x (i - 24)) := b_shl 24 (by omega) x hi
theorem b_sshr8 (x : Int32) {i : Nat} (hi : i < 32) : bt (x >>> ((8 : Int32) &&& 31)) i = if 8 + i < 32 then bt x (8 + i) else bt x 31 := b_sshr 8 (by omega) x hi
/-! ===== nI under and, xor, >>>, one bit, 65535 ===== -/
theorem nx_and (a b : Nat) : nI a &&& nI b = nI (a &&& b) := by
  apply Int32.toBitVec_inj.1
  show BitVec.ofNat 32 a &&& BitVec.ofNat 32 b = BitVec.ofNat 32 (a &&& b)
  apply BitVec.eq_of_getLsbD_eq
  intro i hi
  simp [hi]
theorem nx_xor (a b : Nat) : nI a ^^^ nI b = nI (a ^^^ b) := by
  apply Int32.toBitVec_inj.1
  show BitVec.ofNat 32 a ^^^ BitVec.ofNat 32 b = BitVec.ofNat 32 (a ^^^ b)
  apply BitVec.eq_of_getLsbD_eq
  intro i hi
  simp [hi]
theorem nx_cnt : ∀ j : Fin 32, (UInt32.ofNat j.val &&& Int32.toUInt32 31).toNat % 32 = j.val := by decide +kernel
theorem nx_ush {k j : Nat} (hk : k < 65536) (hj : j < 32) : ((nI k).toUInt32 >>> ((nI j).toUInt32 &&& Int32.toUInt32 31)).toInt32 = nI (k >>> j) := by
  have hs : k >>> j ≤ k := by
    rw [Nat.shiftRight_eq_div_pow]
    exact Nat.div_le_self _ _
  have e2 : UInt32.ofNat k >>> (UInt32.ofNat j &&& Int32.toUInt32 31) = UInt32.ofNat (k >>> j) := by
    apply UInt32.toNat_inj.1
    have h1 : (UInt32.ofNat k).toNat = k := Nat.mod_eq_of_lt (by omega)
    have h2 : (UInt32.ofNat (k >>> j)).toNat = k >>> j := Nat.mod_eq_of_lt (by omega)
    rw [UInt32.toNat_shiftRight, nx_cnt ⟨j, hj⟩, h1, h2]
  show (UInt32.ofNat k >>> (UInt32.ofNat j &&& Int32.toUInt32 31)).toInt32 = _
  rw [e2]
  rfl
theorem nx_bit {k j : Nat} (hk : k < 65536) (hj : j < 16) : (((nI k).toUInt32 >>> ((nI j).toUInt32 &&& Int32.toUInt32 31)).toInt32 &&& 1) = 0 ↔ k.testBit j = false := by
  rw [nx_ush hk (by omega)]
  show nI (k >>> j) &&& nI 1 = 0 ↔ _
  rw [nx_and, Nat.and_one_is_mod, ← nI_0, nI_eq (by omega) (by omega), Nat.testBit_eq_decide_div_mod_eq, Nat.shiftRight_eq_div_pow, decide_eq_false_iff_not]
  generalize k / 2 ^ j = z
  omega
theorem nx_mod (k : Nat) : nI k &&& 65535 = nI (k % 65536) := by
  show nI k &&& nI 65535 = _
  rw [nx_and, show (65535 : Nat) = 2 ^ 16 - 1 from rfl, Nat.and_two_pow_sub_one_eq_mod]
theorem nx_m16 {k : Nat} (h : k < 65536) : nI k &&& 65535 = nI k := by rw [nx_mod, Nat.mod_eq_of_lt h]
theorem nx_mask (x : Int32) : ∃ k, k < 65536 ∧ x &&& 65535 = nI k := by
  have e : x = nI x.toBitVec.toNat := by
    apply Int32.toBitVec_inj.1
    show x.toBitVec = BitVec.ofNat 32 x.toBitVec.toNat
    simp
  refine ⟨x.toBitVec.toNat % 65536, Nat.mod_lt _ (by omega), ?_⟩
  rw [← nx_mod, ← e]
/-! ===== Int32 as a set of bits: test, set ===== -/
def nf_M (m : Int32) : Nat := 4294967296 - m.toBitVec.toNat
theorem nf_sh : ∀ l, l < 32 → ((1 : Int32) <<< (nI l &&& 31)).toBitVec = BitVec.twoPow 32 l := by decide +kernel
theorem nf_sl : ∀ l, l < 32 → (((nI l).toUInt32 &&& Int32.toUInt32 31).toBitVec % 32).toNat = l := by decide +kernel
theorem nf_tp : ∀ l, l < 32 → BitVec.twoPow 32 l ≠ 0#32 := by decide +kernel
theorem nf_bit (m : Int32) (l : Nat) (hl : l < 32) : ((m.toUInt32 >>> ((nI l).toUInt32 &&& Int32.toUInt32 31)).toInt32 &&& 1) = 0 ↔ (m &&& ((1 : Int32) <<< (nI l &&& 31))) = 0 := by
  have e : ((m.toUInt32 >>> ((nI l).toUInt32 &&& Int32.toUInt32 31)).toInt32).toBitVec = m.toBitVec >>> l := by
    show m.toBitVec >>> (((nI l).toUInt32 &&& Int32.toUInt32 31).toBitVec % 32) = m.toBitVec >>> l
    rw [BitVec.ushiftRight_eq', nf_sl l hl]
  rw [← Int32.toBitVec_inj, ← Int32.toBitVec_inj, Int32.toBitVec_and, Int32.toBitVec_and, nf_sh l hl, e, BitVec.and_twoPow]
  show (m.toBitVec >>> l &&& 1#32) = 0#32 ↔ _ = 0#32
  rw [BitVec.and_one_eq_setWidth_ofBool_getLsbD, BitVec.getLsbD_ushiftRight, Nat.add_zero]
  cases hb : m.toBitVec.getLsbD l
  · exact ⟨fun _ => by simp, fun _ => by decide⟩
  · exact ⟨fun z => absurd z (by decide), fun z => absurd ((if_pos rfl).symm.trans z) (nf_tp l hl)⟩
theorem nf_gr (m k : Int32) (h : m &&& k = 0) (hk : k ≠ 0) : nf_M (m ||| k) < nf_M m := by
  have hm := m.toBitVec.isLt
  have hm' := (m ||| k).toBitVec.isLt
  have h1 : m.toBitVec.toNat ≤ (m ||| k).toBitVec.toNat := by
    rw [Int32.toBitVec_or, BitVec.toNat_or]
    exact Nat.left_le_or
  have h2 : m.toBitVec.toNat ≠ (m ||| k).toBitVec.toNat := by
    intro e
    have e2 : m = m ||| k := Int32.toBitVec_inj.mp (BitVec.eq_of_toNat_eq e)
    apply hk
    apply Int32.toBitVec_inj.mp
    show k.toBitVec = 0#32
    apply BitVec.eq_of_getLsbD_eq
    intro i hi
    have a : m.toBitVec.getLsbD i = (m.toBitVec.getLsbD i || k.toBitVec.getLsbD i) := by rw [← BitVec.getLsbD_or, ← Int32.toBitVec_or, ← e2]
    have b : (m.toBitVec.getLsbD i && k.toBitVec.getLsbD i) = false := by
      rw [← BitVec.getLsbD_and, ← Int32.toBitVec_and, h]
      exact BitVec.getLsbD_zero
    rw [BitVec.getLsbD_zero]
    revert a b
    cases m.toBitVec.getLsbD i <;> cases k.toBitVec.getLsbD i <;> simp
  unfold nf_M
  omega
/-! ===== a byte read unsigned ===== -/
theorem bp_b (x : Int32) : x.toInt8.toInt32 &&& 255 = x &&& 255 := by
  apply Int32.toBitVec_inj.mp
  rw [Int32.toBitVec_and, Int32.toBitVec_and, Int8.toBitVec_toInt32, Int32.toBitVec_toInt8]
  apply BitVec.eq_of_getLsbD_eq
  intro i hi
  rw [BitVec.getLsbD_and, BitVec.getLsbD_and]
  have hm : ∀ i < 32, 8 ≤ i → (255 : Int32).toBitVec.getLsbD i = false := by decide
  rcases Nat.lt_or_ge i 8 with z | z
  · rw [BitVec.getLsbD_signExtend, BitVec.getLsbD_signExtend, if_pos z, if_pos hi]
    simp only [z, hi, decide_true, Bool.true_and]
  · rw [hm i hi z]; simp
/-! ===== the char cast and 65535 ===== -/
theorem em_w (v : Int32) : ∃ w : Nat, w < 65536 ∧ (v.toUInt32 % 65536).toInt32 = nI w ∧ v &&& 65535 = nI w := by
  have hr := lw_u16_r v
  have h0 : (0 : Int32).toInt = 0 := by decide
  obtain ⟨w, h1, h2⟩ := nI_of (x := lw_u16 v) (by rw [Int32.lt_iff_toInt_lt]; omega)
  have h3 : (v.toUInt32 % 65536).toInt32 = nI w := h2
  rw [h2, nI_toInt h1] at hr
  exact ⟨w, by omega, h3, by rw [← lg_i2c_mask, ← lg_i2c_nf, h3]⟩
/-! ===== Int64 as a set of bits: test, set, clear ===== -/
theorem ts_nf {x : Bool} (h : ¬ x = false) : x = true := by cases x <;> first | rfl | exact absurd rfl h
theorem ts_nt {x : Bool} (h : ¬ x = true) : x = false := by cases x <;> first | rfl | exact absurd rfl h
theorem ts_bit {w : Int64} {s : UInt64} {j : Nat} (hj : j < 64) (hs : s.toNat = j) : ((w.toUInt64 >>> s).toInt64 &&& 1) = 0 ↔ w.toBitVec.getLsbD j = false := by
  have e : (w.toUInt64 >>> s).toInt64.toBitVec = w.toBitVec >>> j := by
    apply BitVec.eq_of_toNat_eq
    show (w.toUInt64 >>> s).toNat = _
    rw [UInt64.toNat_shiftRight, hs, Nat.mod_eq_of_lt hj, BitVec.toNat_ushiftRight]
    rfl
  rw [← Int64.toBitVec_inj, Int64.toBitVec_and, e]
  show w.toBitVec >>> j &&& 1#64 = 0#64 ↔ _
  constructor
  · intro h
    have t := congrArg (fun x => x.getLsbD 0) h
    simpa using t
  · intro h
    apply BitVec.eq_of_getLsbD_eq
    intro i hi
    cases i with
    | zero => simp [h]
    | succ i => simp
theorem ts_or {w m : Int64} {j : Nat} (hj : j < 64) (hm : m.toBitVec = BitVec.twoPow 64 j) : (w ||| m) = w ↔ w.toBitVec.getLsbD j = true := by
  rw [← Int64.toBitVec_inj, Int64.toBitVec_or, hm]
  constructor
  · intro h
    have t := congrArg (fun x => x.getLsbD j) h
    simp only [BitVec.getLsbD_or, BitVec.getLsbD_twoPow] at t
    simpa [hj] using t.symm
  · intro h
    apply BitVec.eq_of_getLsbD_eq
    intro i hi
    rw [BitVec.getLsbD_or, BitVec.getLsbD_twoPow]
    by_cases e : j = i
    · subst e; rw [h, Bool.true_or]
    · simp [e]
theorem ts_and {w m : Int64} {j : Nat} (hj : j < 64) (hm : m.toBitVec = BitVec.twoPow 64 j) : (w &&& (m ^^^ (-1))) = w ↔ w.toBitVec.getLsbD j = false := by
  have ha : (-1 : Int64).toBitVec = BitVec.allOnes 64 := by decide
  rw [← Int64.toBitVec_inj, Int64.toBitVec_and, Int64.toBitVec_xor, hm, ha]
  constructor
  · intro h
    have t := congrArg (fun x => x.getLsbD j) h
    simp only [BitVec.getLsbD_and, BitVec.getLsbD_xor, BitVec.getLsbD_twoPow, BitVec.getLsbD_allOnes] at t
    simpa [hj] using t.symm
  · intro h
    apply BitVec.eq_of_getLsbD_eq
    intro i hi
    rw [BitVec.getLsbD_and, BitVec.getLsbD_xor, BitVec.getLsbD_twoPow, BitVec.getLsbD_allOnes]
    by_cases e : j = i
    · subst e; rw [h, Bool.false_and]
    · simp [e, hi]
/-! ===== lN n to 2^64: shifts, and, or, masks, one bit ===== -/
theorem wb_tb (n : Nat) : (lN n).toBitVec = BitVec.ofNat 64 n := rfl
theorem wb_inj {a b : Int64} (h : a.toBitVec = b.toBitVec) : a = b := Int64.toBitVec_inj.mp h
theorem wb_tn {n : Nat} (h : n < 2 ^ 64) : (lN n).toBitVec.toNat = n := by rw [wb_tb, BitVec.toNat_ofNat, Nat.mod_eq_of_lt h]
theorem wb_of (x : Int64) : ∃ n, n < 2 ^ 64 ∧ x = lN n := ⟨x.toBitVec.toNat, x.toBitVec.isLt, wb_inj (by rw [wb_tb]; simp)⟩
theorem wb_of32 (x : Int32) : ∃ n, n < 2 ^ 32 ∧ x = nI n := ⟨x.toBitVec.toNat, x.toBitVec.isLt, Int32.toBitVec_inj.mp (by show _ = BitVec.ofNat 32 _; simp)⟩
theorem wb_c : ∀ k, k < 64 → ((nI k).toInt64 &&& 63) = lN k := by decide +kernel
theorem wb_cu : ∀ k, k < 64 → ((nI k).toInt64.toUInt64 &&& Int64.toUInt64 63) = UInt64.ofNat k := by decide +kernel
theorem wb_sm : ∀ k, k < 64 → (BitVec.ofNat 64 k).smod 64 = BitVec.ofNat 64 k := by decide +kernel
theorem wb_pw {a b : Nat} (h : a ≤ b) : 2 ^ b = 2 ^ a * 2 ^ (b - a) := by rw [← Nat.pow_add]; congr 1; omega
theorem wb_lt2 {a b : Nat} (h : a < b) : 2 ^ a < 2 ^ b := Nat.pow_lt_pow_right (by decide) h
theorem wb_mod (n : Nat) : lN n = lN (n % 2 ^ 64) := wb_inj (by rw [wb_tb, wb_tb]; apply BitVec.eq_of_toNat_eq; rw [BitVec.toNat_ofNat, BitVec.toNat_ofNat, Nat.mod_mod])
theorem wb_shr {n k : Nat} (hn : n < 2 ^ 64) (hk : k < 64) : ((lN n).toUInt64 >>> ((nI k).toInt64.toUInt64 &&& Int64.toUInt64 63)).toInt64 = lN (n / 2 ^ k) := by
  rw [wb_cu k hk]
  apply wb_inj
  apply BitVec.eq_of_toNat_eq
  show ((lN n).toUInt64 >>> UInt64.ofNat k).toNat = (BitVec.ofNat 64 _).toNat
  have h1 : (UInt64.ofNat k).toNat = k := by
    show (BitVec.ofNat 64 k).toNat = k
    rw [BitVec.toNat_ofNat, Nat.mod_eq_of_lt (by omega)]
  have h2 : (lN n).toUInt64.toNat = n := wb_tn hn
  rw [UInt64.toNat_shiftRight, h1, h2, Nat.mod_eq_of_lt hk, Nat.shiftRight_eq_div_pow, BitVec.toNat_ofNat, Nat.mod_eq_of_lt (Nat.lt_of_le_of_lt (Nat.div_le_self _ _) hn)]
theorem wb_shl (n : Nat) {k : Nat} (hk : k < 64) : lN n <<< ((nI k).toInt64 &&& 63) = lN (n * 2 ^ k) := by
  rw [wb_c k hk]
  apply wb_inj
  rw [Int64.toBitVec_shiftLeft, wb_tb, wb_tb, wb_tb, wb_sm k hk]
  apply BitVec.eq_of_toNat_eq
  rw [BitVec.shiftLeft_eq', BitVec.toNat_shiftLeft, BitVec.toNat_ofNat, BitVec.toNat_ofNat, BitVec.toNat_ofNat, Nat.mod_eq_of_lt (show k < 2 ^ 64 by omega), Nat.shiftLeft_eq, Nat.mul_mod, Nat.mod_mod, ← Nat.mul_mod]
theorem wb_and {a b : Nat} (ha : a < 2 ^ 64) (hb : b < 2 ^ 64) : lN a &&& lN b = lN (a &&& b) := by
  apply wb_inj
  rw [Int64.toBitVec_and, wb_tb, wb_tb, wb_tb]
  apply BitVec.eq_of_toNat_eq
  rw [BitVec.toNat_and, BitVec.toNat_ofNat, BitVec.toNat_ofNat, BitVec.toNat_ofNat, Nat.mod_eq_of_lt ha, Nat.mod_eq_of_lt hb, Nat.mod_eq_of_lt (Nat.and_lt_two_pow _ hb)]
theorem wb_or {a b : Nat} (ha : a < 2 ^ 64) (hb : b < 2 ^ 64) : lN a ||| lN b = lN (a ||| b) := by
  apply wb_inj
  rw [Int64.toBitVec_or, wb_tb, wb_tb, wb_tb]
  apply BitVec.eq_of_toNat_eq
  rw [BitVec.toNat_or, BitVec.toNat_ofNat, BitVec.toNat_ofNat, BitVec.toNat_ofNat, Nat.mod_eq_of_lt ha, Nat.mod_eq_of_lt hb, Nat.mod_eq_of_lt (Nat.or_lt_two_pow ha hb)]
theorem wb_mask {n k : Nat} (hn : n < 2 ^ 64) (hk : k < 64) : lN n &&& lN (2 ^ k - 1) = lN (n % 2 ^ k) := by
  rw [wb_and hn (by have := wb_lt2 hk; omega), Nat.and_two_pow_sub_one_eq_mod]
theorem wb_a1 {n : Nat} (hn : n < 2 ^ 64) : lN n &&& 1 = lN (n % 2) := wb_mask (k := 1) hn (by decide)
theorem wb_bit {n k : Nat} (hn : n < 2 ^ 64) (hk : k < 64) : ((lN n).toUInt64 >>> ((nI k).toInt64.toUInt64 &&& Int64.toUInt64 63)).toInt64 &&& 1 = lN (n / 2 ^ k % 2) := by
  rw [wb_shr hn hk, wb_a1 (Nat.lt_of_le_of_lt (Nat.div_le_self _ _) hn)]
theorem wb_xor {q k : Nat} (hk : k < 63) (h : 2 ^ k ≤ q) (h2 : q < 2 ^ (k + 1)) : lN q ^^^ lN (2 ^ k) = lN (q - 2 ^ k) := by
  obtain ⟨r, rfl⟩ : ∃ r, q = 2 ^ k + r := ⟨q - 2 ^ k, by omega⟩
  have hr : r < 2 ^ k := by rw [Nat.pow_succ] at h2; omega
  have hx : (2 ^ k + r) ^^^ 2 ^ k = r := by
    apply Nat.eq_of_testBit_eq
    intro i
    rw [Nat.testBit_xor, Nat.testBit_two_pow]
    rcases Nat.lt_trichotomy i k with h | h | h
    · rw [Nat.testBit_two_pow_add_gt h]
      simp [show ¬ k = i by omega]
    · subst h
      rw [Nat.testBit_two_pow_add_eq]
      simp
    · have a1 : 2 ^ (k + 1) ≤ 2 ^ i := Nat.pow_le_pow_right (by decide) h
      rw [Nat.testBit_lt_two_pow (show 2 ^ k + r < 2 ^ i by omega), Nat.testBit_lt_two_pow (show r < 2 ^ i by omega)]
      simp [show ¬ k = i by omega]
  have b1 := wb_lt2 (show k + 1 < 64 by omega)
  have b2 := wb_lt2 (show k < 64 by omega)
  apply wb_inj
  rw [Int64.toBitVec_xor, wb_tb, wb_tb, wb_tb]
  apply BitVec.eq_of_toNat_eq
  rw [BitVec.toNat_xor, BitVec.toNat_ofNat, BitVec.toNat_ofNat, BitVec.toNat_ofNat, Nat.mod_eq_of_lt (by omega : 2 ^ k + r < 2 ^ 64), Nat.mod_eq_of_lt b2, hx, Nat.add_sub_cancel_left, Nat.mod_eq_of_lt (by omega)]
/-! ===== lN: masks, 'or' of parts that don't overlap is a sum ===== -/
theorem u_tn {n : Nat} (h : n < 2 ^ 64) : (UInt64.ofNat n).toNat = n := Nat.mod_eq_of_lt h
theorem g_and {a b c : Nat} (ha : a < 2 ^ 64) (hb : b < 2 ^ 64) (hc : a &&& b = c) : lN a &&& lN b = lN c := by
  subst hc
  have h : UInt64.ofNat a &&& UInt64.ofNat b = UInt64.ofNat (a &&& b) := UInt64.toNat_inj.mp (by rw [UInt64.toNat_and, u_tn ha, u_tn hb, u_tn (Nat.and_lt_two_pow a hb)])
  have h2 := congrArg UInt64.toInt64 h
  exact h2
theorem g_and1 {a : Nat} (ha : a < 2 ^ 64) : lN a &&& 1 = lN (a % 2) := g_and (b := 1) ha (by decide) (Nat.and_two_pow_sub_one_eq_mod a 1)
theorem g_mask {a s p : Nat} (hp : 2 ^ s = p) (hs : s < 64) (ha : a < 2 ^ 64) : lN a &&& lN (p - 1) = lN (a % p) := by
  subst hp
  have := Nat.pow_lt_pow_right (show 1 < 2 by decide) hs
  exact g_and ha (by omega) (Nat.and_two_pow_sub_one_eq_mod a s)
theorem g_or {k p a b : Nat} (hp : 2 ^ k = p) (ha : a < p) (h : b * p + a < 2 ^ 64) : lN (b * p) ||| lN a = lN (b * p + a) := by
  subst hp
  have h1 : b * 2 ^ k ||| a = b * 2 ^ k + a := by rw [← Nat.shiftLeft_eq, Nat.shiftLeft_add_eq_or_of_lt ha]
  have h3 : UInt64.ofNat (b * 2 ^ k) ||| UInt64.ofNat a = UInt64.ofNat (b * 2 ^ k + a) := UInt64.toNat_inj.mp (by rw [UInt64.toNat_or, u_tn (by omega), u_tn (by omega), u_tn h, h1])
  have h2 := congrArg UInt64.toInt64 h3
  exact h2
theorem g_or' {k p a b : Nat} (hp : 2 ^ k = p) (ha : a < p) (h : a + b * p < 2 ^ 64) : lN a ||| lN (b * p) = lN (a + b * p) := by
  rw [Int64.or_comm, g_or hp ha (by omega), Nat.add_comm]
theorem g_ushr {a k p : Nat} {y : UInt64} (hy : y = UInt64.ofNat k) (hk : k < 64) (hp : 2 ^ k = p) (ha : a < 2 ^ 64) : ((lN a).toUInt64 >>> y).toInt64 = lN (a / p) := by
  subst hy hp
  have h : UInt64.ofNat a >>> UInt64.ofNat k = UInt64.ofNat (a / 2 ^ k) := UInt64.toNat_inj.mp (by rw [UInt64.toNat_shiftRight, u_tn ha, u_tn (by omega), u_tn (Nat.lt_of_le_of_lt (Nat.div_le_self _ _) ha), Nat.mod_eq_of_lt hk, Nat.shiftRight_eq_div_pow])
  have h2 := congrArg UInt64.toInt64 h
  exact h2
theorem g_shl {a k p : Nat} {y : Int64} (hy : y.toBitVec.smod 64 = BitVec.ofNat 64 k) (hk : k < 64) (hp : 2 ^ k = p) (ha : a < 2 ^ 64) : lN a <<< y = lN (a * p) := by
  subst hp
  apply Int64.toBitVec_inj.mp
  rw [Int64.toBitVec_shiftLeft, hy]
  apply BitVec.eq_of_toNat_eq
  have hb : (lN a).toBitVec.toNat = a := Nat.mod_eq_of_lt ha
  have hk' : (BitVec.ofNat 64 k).toNat = k := Nat.mod_eq_of_lt (by omega)
  have h : ((lN a).toBitVec <<< BitVec.ofNat 64 k).toNat = (a * 2 ^ k) % 2 ^ 64 := by simp only [BitVec.shiftLeft_eq', BitVec.toNat_shiftLeft, hb, hk', Nat.shiftLeft_eq]
  exact h
/-! ===== lN to 2^62 under >> and >>> ===== -/
theorem pf_lI {a : Nat} (h : a < 2 ^ 63) : (lN a).toInt = (a : Int) := lg_ofNat_toInt h
theorem pf_shr {a d : Nat} {D : Int64} (hD : (D.toBitVec.smod 64).toNat = d) (h : a < 2 ^ 62) : lN a >>> D = lN (a / 2 ^ d) := by
  have hd : a / 2 ^ d ≤ a := Nat.div_le_self _ _
  apply Int64.toInt_inj.mp
  have e : (lN a >>> D).toInt = (lN a).toInt >>> d := by
    rw [← hD]
    exact BitVec.toInt_sshiftRight ..
  rw [e, Int.shiftRight_eq_div_pow, pf_lI (by omega), pf_lI (by omega)]
  rfl
theorem pf_ushr {a d : Nat} {D : UInt64} (hD : D.toNat % 64 = d) (h : a < 2 ^ 62) : ((lN a).toUInt64 >>> D).toInt64 = lN (a / 2 ^ d) := by
  have hd : a / 2 ^ d ≤ a := Nat.div_le_self _ _
  have e : (lN a).toUInt64 >>> D = UInt64.ofNat (a / 2 ^ d) := UInt64.toNat_inj.mp (by
    rw [UInt64.toNat_shiftRight, hD, Nat.shiftRight_eq_div_pow, UInt64.toNat_ofNat']
    show (UInt64.ofNat a).toNat / 2 ^ d = _
    rw [UInt64.toNat_ofNat', Nat.mod_eq_of_lt (by omega), Nat.mod_eq_of_lt (by omega)])
  rw [e]
  rfl
theorem pf_andw (x : Int64) : ∃ m, m < 2 ^ 32 ∧ x &&& 4294967295 = lN m := ⟨x.toBitVec.toNat % 2 ^ 32, Nat.mod_lt _ (by decide), Int64.toBitVec_inj.mp (BitVec.eq_of_toNat_eq (by
  show (x.toBitVec &&& 4294967295#64).toNat = (BitVec.ofNat 64 (x.toBitVec.toNat % 2 ^ 32)).toNat
  rw [BitVec.toNat_and, show (4294967295#64).toNat = 2 ^ 32 - 1 from by decide, Nat.and_two_pow_sub_one_eq_mod, BitVec.toNat_ofNat]
  omega))⟩
/-! ===== Int64 as an unsigned number: uN x ===== -/
def uN (x : Int64) : Nat := x.toUInt64.toNat
theorem uN_lt (x : Int64) : uN x < 18446744073709551616 := x.toUInt64.toNat_lt
theorem uN_inj {x y : Int64} (h : uN x = uN y) : x = y := congrArg UInt64.toInt64 (UInt64.toNat_inj.mp h)
theorem uN_add (x y : Int64) : uN (x + y) = (uN x + uN y) % 18446744073709551616 := by
  show (x.toUInt64 + y.toUInt64).toNat = _
  exact UInt64.toNat_add _ _
theorem uN_mul (x y : Int64) : uN (x * y) = (uN x * uN y) % 18446744073709551616 := by
  show (x.toUInt64 * y.toUInt64).toNat = _
  exact UInt64.toNat_mul _ _
theorem uN_shl (x : Int64) : uN (x <<< ((1 : Int32).toInt64 &&& 63)) = (2 * uN x) % 18446744073709551616 := by
  have h : (((1 : Int32).toInt64 &&& 63).toBitVec.smod 64).toNat = 1 := by decide
  show (x.toBitVec <<< (((1 : Int32).toInt64 &&& 63).toBitVec.smod 64).toNat).toNat = _
  rw [h, BitVec.toNat_shiftLeft, Nat.shiftLeft_eq, Nat.mul_comm]
  rfl
theorem uN_shr (x : Int64) (s : UInt64) : uN (x.toUInt64 >>> s).toInt64 = uN x / 2 ^ (s.toNat % 64) := by
  show (x.toUInt64 >>> s).toNat = _
  rw [UInt64.toNat_shiftRight, Nat.shiftRight_eq_div_pow]
  rfl
theorem uN_s32 (x : Int64) : uN (x.toUInt64 >>> ((32 : Int32).toInt64.toUInt64 &&& Int64.toUInt64 63)).toInt64 = uN x / 4294967296 := by
  have h : ((32 : Int32).toInt64.toUInt64 &&& Int64.toUInt64 63).toNat % 64 = 32 := by decide
  rw [uN_shr, h]
theorem uN_s63 (x : Int64) : uN (x.toUInt64 >>> ((63 : Int32).toInt64.toUInt64 &&& Int64.toUInt64 63)).toInt64 = uN x / 9223372036854775808 := by
  have h : ((63 : Int32).toInt64.toUInt64 &&& Int64.toUInt64 63).toNat % 64 = 63 := by decide
  rw [uN_shr, h]
theorem uN_lo (x : Int64) : uN (x &&& 4294967295) = uN x % 4294967296 := by
  show (x.toUInt64 &&& Int64.toUInt64 4294967295).toNat = _
  rw [UInt64.toNat_and]
  exact Nat.and_two_pow_sub_one_eq_mod _ 32
theorem uN_bit (x : Int64) : (x &&& 1) = 0 ↔ uN x % 2 = 0 := by
  have h : uN (x &&& 1) = uN x % 2 := by
    show (x.toUInt64 &&& Int64.toUInt64 1).toNat = _
    rw [UInt64.toNat_and]
    exact Nat.and_two_pow_sub_one_eq_mod _ 1
  rw [← h]
  exact ⟨fun z => by rw [z]; rfl, fun z => uN_inj (z.trans rfl)⟩
theorem uN_or {x y : Int64} (hy : uN y < 2) : uN ((x <<< ((1 : Int32).toInt64 &&& 63)) ||| y) = (2 * uN x) % 18446744073709551616 + uN y := by
  have h1 : uN ((x <<< ((1 : Int32).toInt64 &&& 63)) ||| y) = uN (x <<< ((1 : Int32).toInt64 &&& 63)) ||| uN y := UInt64.toNat_or _ _
  have h2 : (2 * uN x) % 18446744073709551616 = 2 ^ 1 * (uN x % 9223372036854775808) := by omega
  rw [h1, uN_shl, h2]
  exact (Nat.two_pow_add_eq_or_of_lt (i := 1) hy _).symm
theorem nat_xor {a : Nat} (h : a < 18446744073709551616) : a ^^^ 2 ^ 63 = (a + 9223372036854775808) % 18446744073709551616 := by
  have h1 : (a ^^^ 2 ^ 63) % 2 ^ 63 = a % 2 ^ 63 := by rw [Nat.xor_mod_two_pow, Nat.mod_self, Nat.xor_zero]
  have h2 : (a ^^^ 2 ^ 63) / 2 ^ 63 = (a / 2 ^ 63) ^^^ 1 := by rw [Nat.xor_div_two_pow, Nat.div_self (Nat.two_pow_pos 63)]
  have h3 : a / 2 ^ 63 = 0 ∨ a / 2 ^ 63 = 1 := by omega
  generalize a ^^^ 2 ^ 63 = t at h1 h2
  rcases h3 with h3 | h3
  · rw [h3] at h2
    have h2 : t / 2 ^ 63 = 1 := h2
    omega
  · rw [h3] at h2
    have h2 : t / 2 ^ 63 = 0 := h2
    omega
theorem uN_xor (x : Int64) : uN (x ^^^ (-9223372036854775808)) = (uN x + 9223372036854775808) % 18446744073709551616 := by
  rw [← nat_xor (uN_lt x)]
  exact UInt64.toNat_xor _ _
theorem uN_int (x : Int64) : x.toInt = if 2 * uN x < 18446744073709551616 then (uN x : Int) else (uN x : Int) - 18446744073709551616 := BitVec.toInt_eq_toNat_cond _
theorem uN_le (x y : Int64) : (x ^^^ (-9223372036854775808)) ≤ (y ^^^ (-9223372036854775808)) ↔ uN x ≤ uN y := by
  have hx := uN_lt x
  have hy := uN_lt y
  rw [Int64.le_iff_toInt_le, uN_int, uN_int, uN_xor, uN_xor]
  omega
theorem uN_sk (x : Int64) {k : Nat} (hk : k < 64) : uN (x.toUInt64 >>> ((nI k).toInt64.toUInt64 &&& Int64.toUInt64 63)).toInt64 = uN x / 2 ^ k := by
  have h : ((nI k).toInt64.toUInt64 &&& Int64.toUInt64 63).toNat % 64 = k := by
    rw [nI_l (by omega), UInt64.toNat_and]
    have e : (lN k).toUInt64.toNat = k % 2 ^ 64 := rfl
    have e2 : (Int64.toUInt64 63).toNat = 2 ^ 6 - 1 := by decide
    rw [e, e2, Nat.and_two_pow_sub_one_eq_mod]
    omega
  rw [uN_shr, h]
/-! ===== unsigned comparison by xor with the least ===== -/
theorem lN_bv (n : Nat) : (lN n).toBitVec = BitVec.ofNat 64 n := rfl
theorem lN_nat {n : Nat} (h : n < 2 ^ 64) : (lN n).toBitVec.toNat = n := by rw [lN_bv, BitVec.toNat_ofNat]; exact Nat.mod_eq_of_lt h
theorem lN_xor (a b : Nat) : lN a ^^^ lN b = lN (a ^^^ b) := by
  apply Int64.toBitVec_inj.mp; rw [Int64.toBitVec_xor, lN_bv, lN_bv, lN_bv]; apply BitVec.eq_of_getLsbD_eq; intro i hi; simp [BitVec.getLsbD_ofNat, Nat.testBit_xor, hi]
theorem lN_ti {m : Nat} (h : m < 2 ^ 64) : (lN m).toInt = if m < 2 ^ 63 then (m : Int) else (m : Int) - 2 ^ 64 := by
  have c := BitVec.toInt_eq_toNat_cond (lN m).toBitVec
  rw [lN_nat h] at c
  show (lN m).toBitVec.toInt = _
  rw [c]
  split <;> split <;> omega
theorem xor63 {x : Nat} (h : x < 2 ^ 63) : x ^^^ 2 ^ 63 = 2 ^ 63 + x := by
  apply Nat.eq_of_testBit_eq
  intro i
  rw [Nat.testBit_xor, Nat.testBit_two_pow]
  rcases Nat.lt_trichotomy i 63 with z | z | z
  · rw [Nat.testBit_two_pow_add_gt z, decide_eq_false (by omega)]; simp
  · subst z; rw [Nat.testBit_two_pow_add_eq]; simp
  · have hp : 2 ^ 64 ≤ 2 ^ i := Nat.pow_le_pow_right (by decide) z
    rw [Nat.testBit_lt_two_pow (show x < 2 ^ i by omega), Nat.testBit_lt_two_pow (show 2 ^ 63 + x < 2 ^ i by omega), decide_eq_false (by omega)]; rfl
theorem xorS {a : Nat} (h : a < 2 ^ 64) : (lN a ^^^ (-9223372036854775808)).toInt = (a : Int) - 2 ^ 63 := by
  rw [show (-9223372036854775808 : Int64) = lN (2 ^ 63) from by decide +kernel, lN_xor]
  rcases Nat.lt_or_ge a (2 ^ 63) with z | z
  · rw [xor63 z, lN_ti (by omega), if_neg (by omega)]; omega
  · obtain ⟨x, rfl⟩ : ∃ x, a = 2 ^ 63 + x := ⟨a - 2 ^ 63, by omega⟩
    rw [← xor63 (by omega), Nat.xor_assoc, Nat.xor_self, Nat.xor_zero, lN_ti (by omega), if_pos (by omega), xor63 (by omega)]; omega
theorem ultL {a b : Nat} (ha : a < 2 ^ 64) (hb : b < 2 ^ 64) : ((lN b ^^^ (-9223372036854775808)) ≤ (lN a ^^^ (-9223372036854775808))) ↔ b ≤ a := by
  rw [Int64.le_iff_toInt_le, xorS ha, xorS hb]; omega
/-! ===== Int64 masks of n low bits ===== -/
theorem cr_bits (W U M : BitVec 64) : ((W &&& U) &&& (U &&& (M ^^^ BitVec.allOnes 64))) = 0#64 ↔ (W &&& U) &&& M = W &&& U := by
  constructor
  · intro h
    apply BitVec.eq_of_getLsbD_eq
    intro i hi
    have e := congrArg (fun x => BitVec.getLsbD x i) h
    simp only [BitVec.getLsbD_and, BitVec.getLsbD_xor, BitVec.getLsbD_allOnes, BitVec.getLsbD_zero, hi, decide_true] at e ⊢
    revert e
    cases W.getLsbD i <;> cases U.getLsbD i <;> cases M.getLsbD i <;> decide
  · intro h
    apply BitVec.eq_of_getLsbD_eq
    intro i hi
    have e := congrArg (fun x => BitVec.getLsbD x i) h
    simp only [BitVec.getLsbD_and, BitVec.getLsbD_xor, BitVec.getLsbD_allOnes, BitVec.getLsbD_zero, hi, decide_true] at e ⊢
    revert e
    cases W.getLsbD i <;> cases U.getLsbD i <;> cases M.getLsbD i <;> decide
theorem cr_mask (w U m : Int64) (n : Nat) (hm : m.toBitVec.toNat = 2 ^ n - 1) : ((w &&& U) &&& (U &&& (m ^^^ (-1)))) = 0 ↔ (w &&& U).toBitVec.toNat < 2 ^ n := by
  have e0 : (-1 : Int64).toBitVec = BitVec.allOnes 64 := by decide
  have z0 : (0 : Int64).toBitVec = 0#64 := by decide
  rw [← Int64.toBitVec_inj, z0, Int64.toBitVec_and, Int64.toBitVec_and, Int64.toBitVec_and, Int64.toBitVec_xor, e0, cr_bits]
  generalize w.toBitVec &&& U.toBitVec = T
  rw [← BitVec.toNat_inj, BitVec.toNat_and, hm, Nat.and_two_pow_sub_one_eq_mod]
  constructor
  · intro h
    have t := Nat.mod_lt T.toNat (Nat.two_pow_pos n)
    rw [h] at t
    exact t
  · exact Nat.mod_eq_of_lt
theorem cr_shr (t : Int64) (x : UInt64) (n : Nat) (hx : x.toNat % 64 = n) : (t.toUInt64 >>> x).toInt64 = 0 ↔ t.toBitVec.toNat < 2 ^ n := by
  rw [← Int64.toBitVec_inj, ← BitVec.toNat_inj]
  show (t.toUInt64 >>> x).toNat = 0 ↔ t.toUInt64.toNat < 2 ^ n
  rw [UInt64.toNat_shiftRight, hx, Nat.shiftRight_eq_div_pow]
  constructor
  · intro h
    have d : t.toUInt64.toNat / 2 ^ n < 1 := by
      rw [h]
      decide
    have e := (Nat.div_lt_iff_lt_mul (Nat.two_pow_pos n)).mp d
    rw [Nat.one_mul] at e
    exact e
  · exact Nat.div_eq_of_lt
theorem cr_amt (s : Int64) : ∃ n, n < 64 ∧ s &&& 63 = lN n ∧ (s.toUInt64 &&& Int64.toUInt64 63).toNat % 64 = n := by
  have e : (s.toUInt64 &&& Int64.toUInt64 63).toNat = s.toUInt64.toNat % 2 ^ 6 := by
    rw [UInt64.toNat_and, show (Int64.toUInt64 63).toNat = 2 ^ 6 - 1 from by decide, Nat.and_two_pow_sub_one_eq_mod]
  refine ⟨s.toUInt64.toNat % 2 ^ 6, by omega, ?_, by omega⟩
  rw [← Int64.toBitVec_inj, ← BitVec.toNat_inj]
  show (s.toUInt64 &&& Int64.toUInt64 63).toNat = (BitVec.ofNat 64 (s.toUInt64.toNat % 2 ^ 6)).toNat
  rw [e, BitVec.toNat_ofNat]
  omega
end
section
/-! counts and the pigeonhole -/
def ac_cn (p : Nat → Bool) : Nat → Nat
  | 0 => 0
  | n + 1 => ac_cn p n + (if p n = true then 1 else 0)
theorem ac_cn_congr {p q : Nat → Bool} : ∀ n, (∀ i, i < n → p i = q i) → ac_cn p n = ac_cn q n := by
  intro n
  induction n with
  | zero => intro _; rfl
  | succ n ih =>
    intro h
    show ac_cn p n + _ = ac_cn q n + _
    rw [ih (fun i hi => h i (by omega)), h n (by omega)]
theorem ac_cn_le {p q : Nat → Bool} : ∀ n, (∀ i, i < n → p i = true → q i = true) → ac_cn p n ≤ ac_cn q n := by
  intro n
  induction n with
  | zero => intro _; exact Nat.le_refl _
  | succ n ih =>
    intro h
    have h1 := ih (fun i hi => h i (by omega))
    have h2 := h n (by omega)
    show ac_cn p n + (if p n = true then 1 else 0) ≤ ac_cn q n + (if q n = true then 1 else 0)
    by_cases hp : p n = true
    · rw [if_pos hp, if_pos (h2 hp)]; omega
    · rw [if_neg hp]; omega
theorem ac_cn_full {p : Nat → Bool} : ∀ n, (∀ i, i < n → p i = true) → ac_cn p n = n := by
  intro n
  induction n with
  | zero => intro _; rfl
  | succ n ih =>
    intro h
    show ac_cn p n + (if p n = true then 1 else 0) = n + 1
    rw [ih (fun i hi => h i (by omega)), if_pos (h n (by omega))]
theorem ac_cn_none {p : Nat → Bool} : ∀ n, (∀ i, i < n → p i = false) → ac_cn p n = 0 := by
  intro n
  induction n with
  | zero => intro _; rfl
  | succ n ih =>
    intro h
    show ac_cn p n + (if p n = true then 1 else 0) = 0
    rw [ih (fun i hi => h i (by omega)), h n (by omega)]
    rfl
theorem ac_cn_bound {p : Nat → Bool} : ∀ n, ac_cn p n ≤ n := by
  intro n
  induction n with
  | zero => exact Nat.le_refl _
  | succ n ih =>
    show ac_cn p n + (if p n = true then 1 else 0) ≤ n + 1
    by_cases hp : p n = true
    · rw [if_pos hp]; omega
    · rw [if_neg hp]; omega
theorem ac_cn_pos {p : Nat → Bool} : ∀ n i, i < n → p i = true → 0 < ac_cn p n := by
  intro n
  induction n with
  | zero => intro i hi; omega
  | succ n ih =>
    intro i hi hp
    show 0 < ac_cn p n + (if p n = true then 1 else 0)
    by_cases e : i = n
    · rw [← e, if_pos hp]; omega
    · have := ih i (by omega) hp; omega
/-- one place less -/
theorem ac_cn_drop {p q : Nat → Bool} (d : Nat) (hp : p d = true) (hq : q d = false) (he : ∀ i, i ≠ d → p i = q i) : ∀ n, d < n → ac_cn p n = ac_cn q n + 1 := by
  intro n
  induction n with
  | zero => intro h; omega
  | succ n ih =>
    intro h
    show ac_cn p n + (if p n = true then 1 else 0) = ac_cn q n + (if q n = true then 1 else 0) + 1
    by_cases e : d = n
    · subst e
      rw [if_pos hp, hq, ac_cn_congr (q := q) d (fun i hi => he i (by omega))]
      rfl
    · rw [ih (by omega), he n (by omega)]; omega
theorem ac_cn_two {p : Nat → Bool} (a b : Nat) (hab : a ≠ b) (ha : p a = true) (hb : p b = true) (n : Nat) (h1 : a < n) (h2 : b < n) : 2 ≤ ac_cn p n := by
  have e := ac_cn_drop (p := p) (q := fun i => if i = a then false else p i) a ha (if_pos rfl) (fun i hi => (if_neg hi).symm) n h1
  have := ac_cn_pos (p := fun i => if i = a then false else p i) n b h2 (by show (if b = a then false else p b) = true; rw [if_neg (fun z => hab z.symm)]; exact hb)
  omega
/-- at most one place less -/
theorem ac_cn_le1 {p q : Nat → Bool} : ∀ n, (∀ i j, i < n → j < n → p i = true → p j = true → q i = false → q j = false → i = j) → ac_cn p n ≤ ac_cn q n + 1 := by
  intro n
  induction n with
  | zero => intro _; exact Nat.zero_le _
  | succ n ih =>
    intro h
    have h1 := ih (fun i j hi hj => h i j (by omega) (by omega))
    show ac_cn p n + (if p n = true then 1 else 0) ≤ ac_cn q n + (if q n = true then 1 else 0) + 1
    by_cases hp : p n = true
    · by_cases hq : q n = true
      · rw [if_pos hp, if_pos hq]; omega
      · have hqf : q n = false := by cases hh : q n with | true => exact absurd hh hq | false => rfl
        have h2 : ac_cn p n ≤ ac_cn q n := by
          apply ac_cn_le
          intro i hi hpi
          cases hqi : q i with
          | true => rfl
          | false => exact absurd (h i n (by omega) (by omega) hpi hp hqi hqf) (by omega)
        rw [if_pos hp, if_neg hq]; omega
    · rw [if_neg hp]; omega
/-- the pigeonhole: as many places as values at most -/
theorem ac_ph (n : Nat) (f : Nat → Nat) : ∀ (m : Nat) (p : Nat → Bool), (∀ a, a < n → p a = true → f a < m) → (∀ a b, a < n → b < n → p a = true → p b = true → f a = f b → a = b) → ac_cn p n ≤ m := by
  intro m
  induction m with
  | zero =>
    intro p h _
    rw [ac_cn_none n (fun i hi => by
      cases hp : p i with
      | true => exact absurd (h i hi hp) (by omega)
      | false => rfl)]
    exact Nat.le_refl _
  | succ m ih =>
    intro p h hinj
    have h1 := ih (fun a => p a && !(f a == m)) (fun a ha hp => by
      have hp' : p a = true ∧ ¬ f a = m := by simpa using hp
      have := h a ha hp'.1
      have := hp'.2
      omega) (fun a b ha hb hpa hpb e => by
      have hpa' : p a = true ∧ ¬ f a = m := by simpa using hpa
      have hpb' : p b = true ∧ ¬ f b = m := by simpa using hpb
      exact hinj a b ha hb hpa'.1 hpb'.1 e)
    have h2 := ac_cn_le1 (p := p) (q := fun a => p a && !(f a == m)) n (fun i j hi hj hpi hpj hqi hqj => by
      have ei : f i = m := by
        by_cases e : f i = m
        · exact e
        · exfalso; simp [hpi, e] at hqi
      have ej : f j = m := by
        by_cases e : f j = m
        · exact e
        · exfalso; simp [hpj, e] at hqj
      exact hinj i j hi hj hpi hpj (by omega))
    omega
theorem ac_ph1 (n m : Nat) (f : Nat → Nat) (h : ∀ a, a < n → f a < m) (hinj : ∀ a b, a < b → b < n → f a ≠ f b) : n ≤ m := by
  have := ac_ph n f m (fun _ => true) (fun a ha _ => h a ha) (fun a b ha hb _ _ e => by
    rcases Nat.lt_trichotomy a b with g | g | g
    · exact absurd e (hinj a b g hb)
    · exact g
    · exact absurd e.symm (hinj b a g ha))
  rw [ac_cn_full n (fun _ _ => rfl)] at this
  exact this
/-- strictly increasing sequences with partners are alike -/
theorem ac_inc {n m : Nat} (f : Nat → Nat) (hr : ∀ i, i < n → f i < m) (hm : ∀ i j, i < j → j < n → f i < f j) : ∀ i, i < n → i ≤ f i := by
  intro i
  induction i with
  | zero => intro _; exact Nat.zero_le _
  | succ i ih =>
    intro h
    have := ih (by omega)
    have := hm i (i + 1) (by omega) h
    omega
theorem ac_incN {n m : Nat} (f : Nat → Nat) (hr : ∀ i, i < n → f i < m) (hm : ∀ i j, i < j → j < n → f i < f j) : n ≤ m := by
  cases n with
  | zero => exact Nat.zero_le _
  | succ n =>
    have h1 := ac_inc f hr hm n (by omega)
    have h2 := hr n (by omega)
    omega
end
section
/-! chains: a word and a base; bases below 4 are variables -/
abbrev ch_C := List Nat × Nat
def ch_v (s : Nat → ch_C) (t : ch_C) : ch_C := if t.2 < 4 then (t.1 ++ (s t.2).1, (s t.2).2) else t
def ch_c (a : Nat) (t : ch_C) : ch_C := (a :: t.1, t.2)
theorem ch_v_lt {s : Nat → ch_C} {w : List Nat} {b : Nat} (h : b < 4) : ch_v s (w, b) = (w ++ (s b).1, (s b).2) := if_pos h
theorem ch_v_ge {s : Nat → ch_C} {w : List Nat} {b : Nat} (h : ¬ b < 4) : ch_v s (w, b) = (w, b) := if_neg h
theorem ch_v_var {s : Nat → ch_C} {b : Nat} (h : b < 4) : ch_v s ([], b) = s b := by rw [ch_v_lt h, List.nil_append]
theorem ch_v_app (s : Nat → ch_C) (w x : List Nat) (b : Nat) : ch_v s (w ++ x, b) = (w ++ (ch_v s (x, b)).1, (ch_v s (x, b)).2) := by
  by_cases h : b < 4
  · rw [ch_v_lt h, ch_v_lt h, List.append_assoc]
  · rw [ch_v_ge h, ch_v_ge h]
theorem ch_v_c (s : Nat → ch_C) (a : Nat) (t : ch_C) : ch_v s (ch_c a t) = ch_c a (ch_v s t) := by
  obtain ⟨w, b⟩ := t
  show ch_v s ([a] ++ w, b) = _
  rw [ch_v_app]
  rfl
theorem ch_c_inj {a b : Nat} {t u : ch_C} (h : ch_c a t = ch_c b u) : a = b ∧ t = u := by
  obtain ⟨w, x⟩ := t
  obtain ⟨w', x'⟩ := u
  have h1 : a :: w = b :: w' := congrArg Prod.fst h
  have h2 : x = x' := congrArg Prod.snd h
  have h3 := List.cons.inj h1
  exact ⟨h3.1, by rw [h3.2, h2]⟩
theorem ch_v_len (s : Nat → ch_C) (t : ch_C) : t.1.length ≤ (ch_v s t).1.length := by
  obtain ⟨w, b⟩ := t
  by_cases h : b < 4
  · rw [ch_v_lt h]; simp
  · rw [ch_v_ge h]; exact Nat.le_refl _
/-- s solves the substitution T -/
def ch_sv (s T : Nat → ch_C) : Prop := ∀ v, v < 4 → s v = ch_v s (T v)
/-- T is in normal form: its bases are free, a variable's name is the least -/
def ch_nf (T : Nat → ch_C) : Prop := ∀ v, v < 4 → (T v).2 < 8 ∧ ((T v).2 < 4 → T (T v).2 = ([], (T v).2)) ∧ ((T v).1 = [] → (T v).2 < 4 → (T v).2 ≤ v)
theorem ch_sv_v {s T : Nat → ch_C} (h : ch_sv s T) (t : ch_C) : ch_v s (ch_v T t) = ch_v s t := by
  obtain ⟨w, b⟩ := t
  by_cases hb : b < 4
  · rw [ch_v_lt (s := T) hb, ch_v_app]
    have e := h b hb
    show (w ++ (ch_v s (T b)).1, (ch_v s (T b)).2) = _
    rw [← e, ch_v_lt hb]
  · rw [ch_v_ge (s := T) hb]
theorem ch_sv_self {T : Nat → ch_C} (h : ch_nf T) : ch_sv T T := by
  intro v hv
  have h1 := (h v hv).2.1
  rcases hT : T v with ⟨w, b⟩
  rw [hT] at h1
  by_cases hb : b < 4
  · have h2 : T b = ([], b) := h1 hb
    rw [ch_v_lt hb, h2, List.append_nil]
  · rw [ch_v_ge hb]
theorem ch_nf_id : ch_nf (fun v => ([], v)) := fun v hv => ⟨by show v < 8; omega, fun _ => rfl, fun _ _ => Nat.le_refl v⟩
/-- two normal forms that solve each other are one -/
theorem ch_uniq {S T : Nat → ch_C} (hS : ch_nf S) (hT : ch_nf T) (h1 : ch_sv S T) (h2 : ch_sv T S) : ∀ v, v < 4 → S v = T v := by
  intro v hv
  have e1 := h1 v hv
  have e2 := h2 v hv
  have l1 := ch_v_len S (T v)
  have l2 := ch_v_len T (S v)
  rw [← e1] at l1
  rw [← e2] at l2
  by_cases b2 : (T v).2 < 4
  · by_cases b1 : (S v).2 < 4
    · have f1 : S v = ((T v).1 ++ (S (T v).2).1, (S (T v).2).2) := e1.trans (ch_v_lt b2)
      have f2 : T v = ((S v).1 ++ (T (S v).2).1, (T (S v).2).2) := e2.trans (ch_v_lt b1)
      have g1 : (S v).1 = (T v).1 ++ (S (T v).2).1 := congrArg Prod.fst f1
      have g2 : (T v).1 = (S v).1 ++ (T (S v).2).1 := congrArg Prod.fst f2
      have k1 : (S v).2 = (S (T v).2).2 := by have q := congrArg Prod.snd f1; exact q
      have k2 : (T v).2 = (T (S v).2).2 := by have q := congrArg Prod.snd f2; exact q
      have n1 : (S (T v).2).1 = [] := by
        have := congrArg List.length g1
        rw [List.length_append] at this
        exact List.eq_nil_of_length_eq_zero (by omega)
      have n2 : (T (S v).2).1 = [] := by
        have := congrArg List.length g2
        rw [List.length_append] at this
        exact List.eq_nil_of_length_eq_zero (by omega)
      have m1 := (hS (T v).2 b2).2.2 n1 (by omega)
      have m2 := (hT (S v).2 b1).2.2 n2 (by omega)
      rw [n1, List.append_nil] at g1
      exact Prod.ext g1 (by omega)
    · have : ch_v T (S v) = S v := ch_v_ge b1
      rw [e2, this]
  · have : ch_v S (T v) = T v := ch_v_ge b2
    rw [e1, this]
/-! one step of the reference's unification -/
def ch_b (T : Nat → ch_C) (x : Nat) (w : List Nat) (b : Nat) : Nat → ch_C := fun v => if (T v).2 = x then ((T v).1 ++ w, b) else T v
theorem ch_bind {T : Nat → ch_C} (hT : ch_nf T) {p : List Nat} {x : Nat} {w : List Nat} {b : Nat} (hx : x < 4) (fx : T x = ([], x)) (hb8 : b < 8) (fb : b < 4 → T b = ([], b)) (hne : x ≠ b) (ho : w = [] → b < 4 → b < x) : ch_nf (ch_b T x w b) ∧ ∀ s, ch_sv s (ch_b T x w b) ↔ ch_sv s T ∧ ch_v s (p, x) = ch_v s (p ++ w, b) := by
  constructor
  · intro v hv
    obtain ⟨h1, h2, h3⟩ := hT v hv
    by_cases e : (T v).2 = x
    · have e1 : ch_b T x w b v = ((T v).1 ++ w, b) := if_pos e
      rw [e1]
      refine ⟨hb8, fun hb => ?_, fun hn hb => ?_⟩
      · show ch_b T x w b b = ([], b)
        have : ch_b T x w b b = T b := if_neg (by rw [fb hb]; exact fun z => hne z.symm)
        rw [this, fb hb]
      · have hn' : (T v).1 ++ w = [] := hn
        have h4 := List.append_eq_nil_iff.mp hn'
        have h5 := h3 h4.1 (by omega)
        have h6 := ho h4.2 hb
        show b ≤ v
        omega
    · have e1 : ch_b T x w b v = T v := if_neg e
      rw [e1]
      refine ⟨h1, fun hb => ?_, h3⟩
      have h4 := h2 hb
      have : ch_b T x w b (T v).2 = T (T v).2 := if_neg (by rw [h4]; exact e)
      rw [this, h4]
  · intro s
    have ex : ch_b T x w b x = (w, b) := by
      show (if (T x).2 = x then ((T x).1 ++ w, b) else T x) = _
      rw [fx, if_pos rfl]
      rfl
    have split : ch_v s (p, x) = ch_v s (p ++ w, b) ↔ s x = ch_v s (w, b) := by
      rw [ch_v_lt hx, ch_v_app]
      constructor
      · intro h
        have h1 := congrArg Prod.fst h
        have h2 := congrArg Prod.snd h
        exact Prod.ext (List.append_cancel_left h1) h2
      · intro h; rw [h]
    rw [split]
    constructor
    · intro h
      have hsx : s x = ch_v s (w, b) := by
        have := h x hx
        rw [ex] at this
        exact this
      refine ⟨fun v hv => ?_, hsx⟩
      have h1 := h v hv
      by_cases e : (T v).2 = x
      · have e1 : ch_b T x w b v = ((T v).1 ++ w, b) := if_pos e
        rw [e1, ch_v_app, ← hsx] at h1
        rw [h1]
        show _ = ch_v s (T v)
        have : ch_v s (T v) = ((T v).1 ++ (s (T v).2).1, (s (T v).2).2) := if_pos (by omega)
        rw [this, e]
      · have e1 : ch_b T x w b v = T v := if_neg e
        rw [e1] at h1
        exact h1
    · intro ⟨h, hsx⟩ v hv
      have h1 := h v hv
      by_cases e : (T v).2 = x
      · have e1 : ch_b T x w b v = ((T v).1 ++ w, b) := if_pos e
        rw [e1, ch_v_app, ← hsx, h1]
        have : ch_v s (T v) = ((T v).1 ++ (s (T v).2).1, (s (T v).2).2) := if_pos (by omega)
        rw [this, e]
      · have e1 : ch_b T x w b v = T v := if_neg e
        rw [e1]
        exact h1
/-- equal images agree as far as both words go -/
theorem ch_pre {s : Nat → ch_C} {t u : ch_C} (h : ch_v s t = ch_v s u) (i : Nat) (h1 : i < t.1.length) (h2 : i < u.1.length) : t.1.getD i 0 = u.1.getD i 0 := by
  have pre : ∀ t : ch_C, ∃ z, (ch_v s t).1 = t.1 ++ z := by
    intro t
    by_cases hb : t.2 < 4
    · exact ⟨(s t.2).1, congrArg Prod.fst (if_pos hb)⟩
    · exact ⟨[], by rw [List.append_nil]; exact congrArg Prod.fst (if_neg hb)⟩
  obtain ⟨z, hz⟩ := pre t
  obtain ⟨y, hy⟩ := pre u
  have e : t.1 ++ z = u.1 ++ y := by rw [← hz, ← hy, h]
  have e2 := congrArg (fun l => l.getD i 0) e
  simp only [List.getD_eq_getElem?_getD] at e2 ⊢
  rw [List.getElem?_append_left h1, List.getElem?_append_left h2] at e2
  exact e2
theorem ch_take {p q : List Nat} (h : p.length ≤ q.length) (ha : ∀ i, i < p.length → p.getD i 0 = q.getD i 0) : p ++ q.drop p.length = q := by
  apply List.ext_getElem?
  intro i
  by_cases hi : i < p.length
  · rw [List.getElem?_append_left hi]
    have := ha i hi
    rw [List.getD_eq_getElem?_getD, List.getD_eq_getElem?_getD, List.getElem?_eq_getElem hi, List.getElem?_eq_getElem (by omega)] at this
    rw [List.getElem?_eq_getElem hi, List.getElem?_eq_getElem (by omega)]
    exact congrArg some this
  · rw [List.getElem?_append_right (by omega), List.getElem?_drop]
    congr 1
    omega
theorem ch_fail1 {s : Nat → ch_C} {p q : List Nat} {x b : Nat} (hx : ¬ x < 4) (h : ch_v s (p, x) = ch_v s (q, b)) (hl : p.length ≤ q.length) (hs : p.length = q.length → ¬ b < 4) : p.length = q.length ∧ x = b := by
  rw [ch_v_ge hx] at h
  have l1 := ch_v_len s (q, b)
  rw [← h] at l1
  have e : p.length = q.length := Nat.le_antisymm hl l1
  rw [ch_v_ge (hs e)] at h
  exact ⟨e, congrArg Prod.snd h⟩
theorem ch_fail2 {s : Nat → ch_C} {p q : List Nat} {x : Nat} (h : ch_v s (p, x) = ch_v s (q, x)) : p.length = q.length := by
  by_cases hx : x < 4
  · rw [ch_v_lt hx, ch_v_lt hx] at h
    have := congrArg List.length (congrArg Prod.fst h)
    rw [List.length_append, List.length_append] at this
    omega
  · rw [ch_v_ge hx, ch_v_ge hx] at h
    exact congrArg List.length (congrArg Prod.fst h)
end
section
/-! classes as a list of merges (kept, dropped), the latest first -/
def uf_rt : List (Nat × Nat) → Nat → Nat
  | [], x => x
  | (k, d) :: L, x => if uf_rt L x = d then k else uf_rt L x
def uf_pa : List (Nat × Nat) → Nat → Nat
  | [], x => x
  | (k, d) :: L, x => if x = d then k else uf_pa L x
def uf_sh : List (Nat × Nat) → Nat → Nat
  | [], x => if 32 ≤ x ∧ x < 36 then 40 else x
  | (k, d) :: L, x => if x = k then (if uf_sh L k < 40 then uf_sh L k else uf_sh L d) else uf_sh L x
def uf_ls : List (Nat × Nat) → Nat → Nat
  | [], x => if 32 ≤ x ∧ x < 36 then x - 32 else 4
  | (k, d) :: L, x => if x = k then (if uf_ls L k ≤ uf_ls L d then uf_ls L k else uf_ls L d) else uf_ls L x
def uf_dp : List (Nat × Nat) → Nat → Nat
  | [], _ => 0
  | (_, d) :: L, x => if uf_rt L x = d then uf_dp L x + 1 else uf_dp L x
def uf_ok (V : Nat → Prop) : List (Nat × Nat) → Prop
  | [] => True
  | (k, d) :: L => V k ∧ V d ∧ k ≠ d ∧ uf_rt L k = k ∧ uf_rt L d = d ∧ uf_ok V L
theorem uf_ok_mono {V W : Nat → Prop} (h : ∀ x, V x → W x) : ∀ {L : List (Nat × Nat)}, uf_ok V L → uf_ok W L
  | [], _ => True.intro
  | (_, _) :: _, ⟨a, b, c, d, e, f⟩ => ⟨h _ a, h _ b, c, d, e, uf_ok_mono h f⟩
theorem uf_ok_drop {V : Nat → Prop} : ∀ (n : Nat) {L : List (Nat × Nat)}, uf_ok V L → uf_ok V (L.drop n)
  | 0, _, h => h
  | _ + 1, [], h => h
  | n + 1, (_, _) :: _, ⟨_, _, _, _, _, f⟩ => uf_ok_drop n f
theorem uf_rt_eq {k d x : Nat} {L : List (Nat × Nat)} (h : uf_rt L x = d) : uf_rt ((k, d) :: L) x = k := if_pos h
theorem uf_rt_ne {k d x : Nat} {L : List (Nat × Nat)} (h : ¬ uf_rt L x = d) : uf_rt ((k, d) :: L) x = uf_rt L x := if_neg h
theorem uf_rt_rt {V : Nat → Prop} : ∀ {L : List (Nat × Nat)}, uf_ok V L → ∀ x, uf_rt L (uf_rt L x) = uf_rt L x
  | [], _, _ => rfl
  | (k, d) :: L, ⟨_, _, hkd, hk, _, hL⟩, x => by
    have ih := uf_rt_rt hL x
    by_cases h : uf_rt L x = d
    · rw [uf_rt_eq h, uf_rt_ne (by rw [hk]; exact hkd), hk]
    · rw [uf_rt_ne h, uf_rt_ne (by rw [ih]; exact h), ih]
theorem uf_rt_V {V : Nat → Prop} : ∀ {L : List (Nat × Nat)}, uf_ok V L → ∀ x, V x → V (uf_rt L x)
  | [], _, _, h => h
  | (k, d) :: L, ⟨hVk, _, _, _, _, hL⟩, x, hx => by
    by_cases h : uf_rt L x = d
    · rw [uf_rt_eq h]; exact hVk
    · rw [uf_rt_ne h]; exact uf_rt_V hL x hx
/-- a root is its own parent, and the other way round -/
theorem uf_root {V : Nat → Prop} : ∀ {L : List (Nat × Nat)}, uf_ok V L → ∀ x, uf_pa L x = x ↔ uf_rt L x = x
  | [], _, _ => Iff.rfl
  | (k, d) :: L, ⟨_, _, hkd, hk, hd, hL⟩, x => by
    have ih := uf_root hL x
    by_cases e : x = d
    · subst e
      have h1 : uf_pa ((k, x) :: L) x = k := if_pos rfl
      rw [h1, uf_rt_eq hd]
    · have h1 : uf_pa ((k, d) :: L) x = uf_pa L x := if_neg e
      rw [h1, ih]
      by_cases h : uf_rt L x = d
      · rw [uf_rt_eq h]
        constructor
        · intro h2; exact absurd (h2.symm.trans h) e
        · intro h2; subst h2; exact hk
      · rw [uf_rt_ne h]
theorem uf_rt_pa {V : Nat → Prop} : ∀ {L : List (Nat × Nat)}, uf_ok V L → ∀ x, uf_rt L (uf_pa L x) = uf_rt L x
  | [], _, _ => rfl
  | (k, d) :: L, ⟨_, _, hkd, hk, hd, hL⟩, x => by
    have ih := uf_rt_pa hL x
    by_cases e : x = d
    · subst e
      have h1 : uf_pa ((k, x) :: L) x = k := if_pos rfl
      rw [h1, uf_rt_eq hd, uf_rt_ne (by rw [hk]; exact hkd), hk]
    · have h1 : uf_pa ((k, d) :: L) x = uf_pa L x := if_neg e
      rw [h1]
      by_cases h : uf_rt L x = d
      · rw [uf_rt_eq h, uf_rt_eq (ih.trans h)]
      · rw [uf_rt_ne h, uf_rt_ne (by rw [ih]; exact h), ih]
theorem uf_pa_V {V : Nat → Prop} : ∀ {L : List (Nat × Nat)}, uf_ok V L → ∀ x, V x → V (uf_pa L x)
  | [], _, _, h => h
  | (k, d) :: L, ⟨hVk, _, _, _, _, hL⟩, x, hx => by
    by_cases e : x = d
    · have h1 : uf_pa ((k, d) :: L) x = k := if_pos e
      rw [h1]; exact hVk
    · have h1 : uf_pa ((k, d) :: L) x = uf_pa L x := if_neg e
      rw [h1]; exact uf_pa_V hL x hx
theorem uf_dp_root {V : Nat → Prop} : ∀ {L : List (Nat × Nat)}, uf_ok V L → ∀ x, uf_rt L x = x → uf_dp L x = 0
  | [], _, _, _ => rfl
  | (k, d) :: L, ⟨_, _, hkd, hk, _, hL⟩, x, hx => by
    by_cases h : uf_rt L x = d
    · rw [uf_rt_eq h] at hx
      subst hx
      exact absurd (hk.symm.trans h) hkd
    · rw [uf_rt_ne h] at hx
      have h1 : uf_dp ((k, d) :: L) x = uf_dp L x := if_neg h
      rw [h1]; exact uf_dp_root hL x hx
theorem uf_dp_pa {V : Nat → Prop} : ∀ {L : List (Nat × Nat)}, uf_ok V L → ∀ x, ¬ uf_pa L x = x → uf_dp L x = uf_dp L (uf_pa L x) + 1
  | [], _, _, h => absurd rfl h
  | (k, d) :: L, ⟨_, _, hkd, hk, hd, hL⟩, x, hx => by
    by_cases e : x = d
    · subst e
      have h1 : uf_pa ((k, x) :: L) x = k := if_pos rfl
      have h2 : uf_dp ((k, x) :: L) x = uf_dp L x + 1 := if_pos hd
      have h3 : uf_dp ((k, x) :: L) k = uf_dp L k := if_neg (by rw [hk]; exact hkd)
      rw [h1, h2, h3, uf_dp_root hL x hd, uf_dp_root hL k hk]
    · have h1 : uf_pa ((k, d) :: L) x = uf_pa L x := if_neg e
      rw [h1] at hx ⊢
      have ih := uf_dp_pa hL x hx
      have hr := uf_rt_pa hL x
      by_cases h : uf_rt L x = d
      · have h2 : uf_dp ((k, d) :: L) x = uf_dp L x + 1 := if_pos h
        have h3 : uf_dp ((k, d) :: L) (uf_pa L x) = uf_dp L (uf_pa L x) + 1 := if_pos (hr.trans h)
        rw [h2, h3, ih]
      · have h2 : uf_dp ((k, d) :: L) x = uf_dp L x := if_neg h
        have h3 : uf_dp ((k, d) :: L) (uf_pa L x) = uf_dp L (uf_pa L x) := if_neg (by rw [hr]; exact h)
        rw [h2, h3, ih]
theorem uf_dp_le : ∀ (L : List (Nat × Nat)) (x : Nat), uf_dp L x ≤ L.length
  | [], _ => Nat.le_refl _
  | (k, d) :: L, x => by
    have ih := uf_dp_le L x
    by_cases h : uf_rt L x = d
    · have h2 : uf_dp ((k, d) :: L) x = uf_dp L x + 1 := if_pos h
      rw [h2, List.length_cons]; omega
    · have h2 : uf_dp ((k, d) :: L) x = uf_dp L x := if_neg h
      rw [h2, List.length_cons]; omega
/-- roots and merges together are forty -/
theorem uf_cnt {V : Nat → Prop} (hV : ∀ x, V x → x < 40) : ∀ {L : List (Nat × Nat)}, uf_ok V L → ac_cn (fun x => decide (uf_rt L x = x)) 40 + L.length = 40
  | [], _ => by rw [ac_cn_full 40 (fun i _ => by show decide (i = i) = true; exact decide_eq_true rfl)]; rfl
  | (k, d) :: L, ⟨hVk, hVd, hkd, hk, hd, hL⟩ => by
    have ih := uf_cnt hV hL
    have e := ac_cn_drop (p := fun x => decide (uf_rt L x = x)) (q := fun x => decide (uf_rt ((k, d) :: L) x = x)) d (decide_eq_true hd) (decide_eq_false (by rw [uf_rt_eq hd]; exact hkd)) (fun i hi => by
      by_cases h : uf_rt L i = d
      · have h1 : ¬ uf_rt L i = i := by rw [h]; exact fun z => hi z.symm
        have h2 : ¬ uf_rt ((k, d) :: L) i = i := by
          rw [uf_rt_eq h]
          intro z
          subst z
          exact hkd (hk.symm.trans h)
        show decide _ = decide _
        rw [decide_eq_false h1, decide_eq_false h2]
      · show decide _ = decide _
        rw [uf_rt_ne h]) 40 (hV d hVd)
    rw [List.length_cons]
    omega
theorem uf_len {V : Nat → Prop} (hV : ∀ x, V x → x < 40) {L : List (Nat × Nat)} (h : uf_ok V L) (h0 : V 0 ∨ V 39) : L.length ≤ 39 := by
  have e := uf_cnt hV h
  have : ∃ r, V r ∧ uf_rt L r = r := by
    rcases h0 with h0 | h0
    · exact ⟨uf_rt L 0, uf_rt_V h 0 h0, uf_rt_rt h 0⟩
    · exact ⟨uf_rt L 39, uf_rt_V h 39 h0, uf_rt_rt h 39⟩
  obtain ⟨r, hr, hrr⟩ := this
  have := ac_cn_pos (p := fun x => decide (uf_rt L x = x)) 40 r (hV r hr) (decide_eq_true hrr)
  omega
theorem uf_len2 {V : Nat → Prop} (hV : ∀ x, V x → x < 40) {L : List (Nat × Nat)} (h : uf_ok V L) {a b : Nat} (ha : V a) (hb : V b) (hab : ¬ uf_rt L a = uf_rt L b) : L.length ≤ 38 := by
  have e := uf_cnt hV h
  have := ac_cn_two (p := fun x => decide (uf_rt L x = x)) (uf_rt L a) (uf_rt L b) hab (decide_eq_true (uf_rt_rt h a)) (decide_eq_true (uf_rt_rt h b)) 40 (hV _ (uf_rt_V h a ha)) (hV _ (uf_rt_V h b hb))
  omega
/-! shapes and least variables -/
theorem uf_sh_k {k d : Nat} {L : List (Nat × Nat)} : uf_sh ((k, d) :: L) k = if uf_sh L k < 40 then uf_sh L k else uf_sh L d := if_pos rfl
theorem uf_sh_n {k d x : Nat} {L : List (Nat × Nat)} (h : x ≠ k) : uf_sh ((k, d) :: L) x = uf_sh L x := if_neg h
theorem uf_sh_le {V : Nat → Prop} (hV : ∀ x, V x → x < 40) : ∀ {L : List (Nat × Nat)}, uf_ok V L → ∀ x, x < 40 → uf_sh L x ≤ 40
  | [], _, x, hx => by
    show (if 32 ≤ x ∧ x < 36 then 40 else x) ≤ 40
    split <;> omega
  | (k, d) :: L, ⟨hVk, hVd, _, _, _, hL⟩, x, hx => by
    have h1 := uf_sh_le hV hL x hx
    have h2 := uf_sh_le hV hL k (hV k hVk)
    have h3 := uf_sh_le hV hL d (hV d hVd)
    by_cases e : x = k
    · subst e
      rw [uf_sh_k]
      split <;> assumption
    · rw [uf_sh_n e]; exact h1
/-- where there is no shape there are variables alone -/
theorem uf_sh_none {V : Nat → Prop} (hV : ∀ x, V x → x < 40) : ∀ {L : List (Nat × Nat)}, uf_ok V L → ∀ x, V x → uf_sh L (uf_rt L x) = 40 → 32 ≤ x ∧ x < 36
  | [], _, x, hx, h => by
    have h' : (if 32 ≤ x ∧ x < 36 then 40 else x) = 40 := h
    by_cases e : 32 ≤ x ∧ x < 36
    · exact e
    · rw [if_neg e] at h'
      have := hV x hx
      omega
  | (k, d) :: L, ⟨hVk, hVd, hkd, hk, hd, hL⟩, x, hx, h => by
    have ih := uf_sh_none hV hL x hx
    by_cases e : uf_rt L x = d
    · rw [uf_rt_eq e, uf_sh_k] at h
      by_cases g : uf_sh L k < 40
      · rw [if_pos g] at h; omega
      · rw [if_neg g] at h
        exact ih (by rw [e]; exact h)
    · rw [uf_rt_ne e] at h
      by_cases g : uf_rt L x = k
      · rw [g, uf_sh_k] at h
        have h2 := uf_sh_le hV hL k (hV k hVk)
        by_cases g2 : uf_sh L k < 40
        · rw [if_pos g2] at h; omega
        · exact ih (by rw [g]; omega)
      · rw [uf_sh_n g] at h
        exact ih h
/-- a shape is equal to its root and is no variable -/
theorem uf_sh_some {V : Nat → Prop} (hV : ∀ x, V x → x < 40) : ∀ {L : List (Nat × Nat)}, uf_ok V L → ∀ r, V r → uf_rt L r = r → uf_sh L r < 40 → V (uf_sh L r) ∧ uf_rt L (uf_sh L r) = r ∧ ¬ (32 ≤ uf_sh L r ∧ uf_sh L r < 36)
  | [], _, r, hr, _, h => by
    have h' : (if 32 ≤ r ∧ r < 36 then 40 else r) < 40 := h
    show V (if 32 ≤ r ∧ r < 36 then 40 else r) ∧ (if 32 ≤ r ∧ r < 36 then 40 else r) = r ∧ ¬ (32 ≤ (if 32 ≤ r ∧ r < 36 then 40 else r) ∧ (if 32 ≤ r ∧ r < 36 then 40 else r) < 36)
    by_cases e : 32 ≤ r ∧ r < 36
    · rw [if_pos e] at h'; omega
    · rw [if_neg e]; exact ⟨hr, rfl, e⟩
  | (k, d) :: L, ⟨hVk, hVd, hkd, hk, hd, hL⟩, r, hr, hrr, h => by
    have hrd : ¬ uf_rt L r = d := by
      intro e
      rw [uf_rt_eq e] at hrr
      subst hrr
      exact hkd (hk.symm.trans e)
    rw [uf_rt_ne hrd] at hrr
    by_cases g : r = k
    · subst g
      rw [uf_sh_k] at h ⊢
      by_cases g2 : uf_sh L r < 40
      · rw [if_pos g2] at h ⊢
        obtain ⟨a, b, c⟩ := uf_sh_some hV hL r hr hk h
        exact ⟨a, by rw [uf_rt_ne (by rw [b]; exact hkd), b], c⟩
      · rw [if_neg g2] at h ⊢
        obtain ⟨a, b, c⟩ := uf_sh_some hV hL d hVd hd h
        exact ⟨a, by rw [uf_rt_eq b], c⟩
    · rw [uf_sh_n g] at h ⊢
      obtain ⟨a, b, c⟩ := uf_sh_some hV hL r hr hrr h
      exact ⟨a, by rw [uf_rt_ne (by rw [b]; exact fun z => hrd (hrr.trans z)), b], c⟩
theorem uf_ls_k {k d : Nat} {L : List (Nat × Nat)} : uf_ls ((k, d) :: L) k = if uf_ls L k ≤ uf_ls L d then uf_ls L k else uf_ls L d := if_pos rfl
theorem uf_ls_n {k d x : Nat} {L : List (Nat × Nat)} (h : x ≠ k) : uf_ls ((k, d) :: L) x = uf_ls L x := if_neg h
theorem uf_ls_le4 : ∀ (L : List (Nat × Nat)) (x : Nat), uf_ls L x ≤ 4
  | [], x => by
    show (if 32 ≤ x ∧ x < 36 then x - 32 else 4) ≤ 4
    split <;> omega
  | (k, d) :: L, x => by
    have h1 := uf_ls_le4 L x
    have h2 := uf_ls_le4 L k
    have h3 := uf_ls_le4 L d
    by_cases e : x = k
    · subst e
      rw [uf_ls_k]
      split <;> assumption
    · rw [uf_ls_n e]; exact h1
theorem uf_ls_min {V : Nat → Prop} : ∀ {L : List (Nat × Nat)}, uf_ok V L → ∀ v, v < 4 → uf_ls L (uf_rt L (32 + v)) ≤ v
  | [], _, v, hv => by
    show (if 32 ≤ 32 + v ∧ 32 + v < 36 then 32 + v - 32 else 4) ≤ v
    rw [if_pos (by omega)]; omega
  | (k, d) :: L, ⟨_, _, hkd, hk, hd, hL⟩, v, hv => by
    have ih := uf_ls_min hL v hv
    by_cases e : uf_rt L (32 + v) = d
    · rw [uf_rt_eq e, uf_ls_k]
      rw [e] at ih
      split <;> omega
    · rw [uf_rt_ne e]
      by_cases g : uf_rt L (32 + v) = k
      · rw [g] at ih ⊢
        rw [uf_ls_k]
        split <;> omega
      · rw [uf_ls_n g]; exact ih
theorem uf_ls_in {V : Nat → Prop} : ∀ {L : List (Nat × Nat)}, uf_ok V L → ∀ r, uf_rt L r = r → uf_ls L r < 4 → uf_rt L (32 + uf_ls L r) = r
  | [], _, r, _, h => by
    have h' : (if 32 ≤ r ∧ r < 36 then r - 32 else 4) < 4 := h
    show 32 + (if 32 ≤ r ∧ r < 36 then r - 32 else 4) = r
    by_cases e : 32 ≤ r ∧ r < 36
    · rw [if_pos e]; omega
    · rw [if_neg e] at h'; omega
  | (k, d) :: L, ⟨_, _, hkd, hk, hd, hL⟩, r, hrr, h => by
    have hrd : ¬ uf_rt L r = d := by
      intro e
      rw [uf_rt_eq e] at hrr
      subst hrr
      exact hkd (hk.symm.trans e)
    rw [uf_rt_ne hrd] at hrr
    by_cases g : r = k
    · subst g
      rw [uf_ls_k] at h ⊢
      by_cases g2 : uf_ls L r ≤ uf_ls L d
      · rw [if_pos g2] at h ⊢
        have b := uf_ls_in hL r hk h
        rw [uf_rt_ne (by rw [b]; exact hkd), b]
      · rw [if_neg g2] at h ⊢
        have b := uf_ls_in hL d hd h
        rw [uf_rt_eq b]
    · rw [uf_ls_n g] at h ⊢
      have b := uf_ls_in hL r hrr h
      rw [uf_rt_ne (by rw [b]; exact fun z => hrd (hrr.trans z)), b]
theorem uf_rt_mem {V : Nat → Prop} : ∀ {L : List (Nat × Nat)}, uf_ok V L → ∀ p, p ∈ L → uf_rt L p.1 = uf_rt L p.2
  | (k, d) :: L, ⟨_, _, hkd, hk, hd, hL⟩, p, hp => by
    rcases List.mem_cons.mp hp with e | e
    · subst e
      rw [uf_rt_ne (by show ¬ uf_rt L k = d; rw [hk]; exact hkd), uf_rt_eq hd]
      exact hk
    · have ih := uf_rt_mem hL p e
      by_cases g : uf_rt L p.1 = d
      · rw [uf_rt_eq g, uf_rt_eq (ih ▸ g)]
      · rw [uf_rt_ne g, uf_rt_ne (ih ▸ g), ih]
/-- classes only grow -/
theorem uf_grow {k d x y : Nat} {L : List (Nat × Nat)} (h : uf_rt L x = uf_rt L y) : uf_rt ((k, d) :: L) x = uf_rt ((k, d) :: L) y := by
  show (if uf_rt L x = d then k else uf_rt L x) = (if uf_rt L y = d then k else uf_rt L y)
  rw [h]
/-- after a merge of the classes of x and y, either way -/
def uf_e (L : List (Nat × Nat)) (x y a b : Nat) : Prop := uf_rt L a = uf_rt L b ∨ (uf_rt L a = uf_rt L x ∧ uf_rt L b = uf_rt L y) ∨ (uf_rt L a = uf_rt L y ∧ uf_rt L b = uf_rt L x)
theorem uf_e_mg {k d x y a b : Nat} {L : List (Nat × Nat)} (hkd : k ≠ d) (h : (k = uf_rt L x ∧ d = uf_rt L y) ∨ (k = uf_rt L y ∧ d = uf_rt L x)) : uf_rt ((k, d) :: L) a = uf_rt ((k, d) :: L) b ↔ uf_e L x y a b := by
  unfold uf_e
  generalize uf_rt L x = X at h ⊢
  generalize uf_rt L y = Y at h ⊢
  show (if uf_rt L a = d then k else uf_rt L a) = (if uf_rt L b = d then k else uf_rt L b) ↔ _
  generalize uf_rt L a = P
  generalize uf_rt L b = Q
  split <;> split <;> omega
end
section
/-! term nodes and unification by classes -/
def un_var (x : Nat) : Prop := 32 ≤ x ∧ x < 36
/-- a system of nodes: V which are there, nt their chains, sy and nc symbol and child -/
def un_S (V : Nat → Prop) (nt : Nat → ch_C) (sy nc : Nat → Nat) : Prop :=
  (∀ x, V x → x < 40) ∧ (∀ x, V x → x < 32 → x % 4 < 3 ∧ V (nc x) ∧ nt x = ch_c (sy x) (nt (nc x))) ∧ (∀ x, 32 ≤ x → x < 40 → V x ∧ nt x = ([], x - 32))
def un_sol (nt : Nat → ch_C) (s : Nat → ch_C) (L : List (Nat × Nat)) : Prop := ∀ p, p ∈ L → ch_v s (nt p.1) = ch_v s (nt p.2)
def un_eq (nt : Nat → ch_C) (s : Nat → ch_C) (x y : Nat) : Prop := ch_v s (nt x) = ch_v s (nt y)
/-- nodes with one root agree, their children by R -/
def un_cg (V : Nat → Prop) (sy nc : Nat → Nat) (L : List (Nat × Nat)) (R : Nat → Nat → Prop) : Prop :=
  ∀ f g, V f → V g → ¬ un_var f → ¬ un_var g → uf_rt L f = uf_rt L g → f = g ∨ (f < 32 ∧ g < 32 ∧ sy f = sy g ∧ R (nc f) (nc g))
def un_same (L : List (Nat × Nat)) (a b : Nat) : Prop := uf_rt L a = uf_rt L b
/-- the walk from a node ends within n steps -/
def un_fw (nc : Nat → Nat) (L : List (Nat × Nat)) : Nat → Nat → Prop
  | 0, _ => False
  | n + 1, z => uf_sh L (uf_rt L z) < 32 → un_fw nc L n (nc (uf_sh L (uf_rt L z)))
def un_fin (nc : Nat → Nat) (L : List (Nat × Nat)) (z : Nat) : Prop := ∃ n, un_fw nc L n z
/-- what the walk reads -/
def un_wk (sy nc : Nat → Nat) (L : List (Nat × Nat)) : Nat → Nat → ch_C
  | 0, _ => ([], 0)
  | n + 1, z => if uf_sh L (uf_rt L z) < 32 then ch_c (sy (uf_sh L (uf_rt L z))) (un_wk sy nc L n (nc (uf_sh L (uf_rt L z))))
    else if uf_sh L (uf_rt L z) < 40 then ([], uf_sh L (uf_rt L z) - 32) else ([], uf_ls L (uf_rt L z))
section UN
variable {V : Nat → Prop} {nt : Nat → ch_C} {sy nc : Nat → Nat}
theorem un_sol_rt {s : Nat → ch_C} : ∀ {L : List (Nat × Nat)}, un_sol nt s L → ∀ x, ch_v s (nt (uf_rt L x)) = ch_v s (nt x)
  | [], _, _ => rfl
  | (k, d) :: L, h, x => by
    have hL : un_sol nt s L := fun p hp => h p (List.mem_cons_of_mem _ hp)
    have ih := un_sol_rt hL x
    by_cases e : uf_rt L x = d
    · rw [uf_rt_eq e]
      have := h (k, d) (List.mem_cons_self)
      rw [← ih, e]
      exact this
    · rw [uf_rt_ne e]; exact ih
theorem un_sol_same {s : Nat → ch_C} {L : List (Nat × Nat)} (h : un_sol nt s L) {x y : Nat} (e : uf_rt L x = uf_rt L y) : ch_v s (nt x) = ch_v s (nt y) := by
  rw [← un_sol_rt h x, ← un_sol_rt h y, e]
theorem un_sol_cons {s : Nat → ch_C} {L : List (Nat × Nat)} {k d : Nat} : un_sol nt s ((k, d) :: L) ↔ un_sol nt s L ∧ ch_v s (nt k) = ch_v s (nt d) :=
  ⟨fun h => ⟨fun p hp => h p (List.mem_cons_of_mem _ hp), h (k, d) List.mem_cons_self⟩, fun h p hp => by
    rcases List.mem_cons.mp hp with e | e
    · rw [e]; exact h.2
    · exact h.1 p e⟩
/-- the merge of the classes of x and y says that x and y are equal -/
theorem un_sol_mg {s : Nat → ch_C} {L : List (Nat × Nat)} {k d x y : Nat} (h : (k = uf_rt L x ∧ d = uf_rt L y) ∨ (k = uf_rt L y ∧ d = uf_rt L x)) : un_sol nt s ((k, d) :: L) ↔ un_sol nt s L ∧ un_eq nt s x y := by
  rw [un_sol_cons]
  constructor
  · intro ⟨h1, h2⟩
    refine ⟨h1, ?_⟩
    unfold un_eq
    rw [← un_sol_rt h1 x, ← un_sol_rt h1 y]
    rcases h with ⟨a, b⟩ | ⟨a, b⟩
    · rw [← a, ← b]; exact h2
    · rw [← a, ← b]; exact h2.symm
  · intro ⟨h1, h2⟩
    refine ⟨h1, ?_⟩
    unfold un_eq at h2
    rw [← un_sol_rt h1 x, ← un_sol_rt h1 y] at h2
    rcases h with ⟨a, b⟩ | ⟨a, b⟩
    · rw [a, b]; exact h2
    · rw [a, b]; exact h2.symm
theorem un_fw_mono {L : List (Nat × Nat)} : ∀ n z, un_fw nc L n z → un_fw nc L (n + 1) z := by
  intro n
  induction n with
  | zero => intro z h; exact False.elim h
  | succ n ih => intro z h hs; exact ih _ (h hs)
theorem un_fw_le {L : List (Nat × Nat)} {n m : Nat} (h : n ≤ m) {z : Nat} (hf : un_fw nc L n z) : un_fw nc L m z := by
  obtain ⟨d, rfl⟩ : ∃ d, m = n + d := ⟨m - n, by omega⟩
  clear h
  induction d with
  | zero => exact hf
  | succ d ih => exact un_fw_mono _ _ ih
theorem un_fw_same {L : List (Nat × Nat)} {n a b : Nat} (e : uf_rt L a = uf_rt L b) (h : un_fw nc L n a) : un_fw nc L n b := by
  cases n with
  | zero => exact h
  | succ n => intro hs; rw [← e] at hs ⊢; exact h hs
theorem un_wk_same {L : List (Nat × Nat)} {n a b : Nat} (e : uf_rt L a = uf_rt L b) : un_wk sy nc L n a = un_wk sy nc L n b := by
  cases n with
  | zero => rfl
  | succ n => simp only [un_wk, e]
theorem un_wk_s {L : List (Nat × Nat)} {n z : Nat} (h : uf_sh L (uf_rt L z) < 32) : un_wk sy nc L (n + 1) z = ch_c (sy (uf_sh L (uf_rt L z))) (un_wk sy nc L n (nc (uf_sh L (uf_rt L z)))) := if_pos h
theorem un_wk_k {L : List (Nat × Nat)} {n z : Nat} (h : ¬ uf_sh L (uf_rt L z) < 32) (h2 : uf_sh L (uf_rt L z) < 40) : un_wk sy nc L (n + 1) z = ([], uf_sh L (uf_rt L z) - 32) := by
  show (if _ then _ else _) = _
  rw [if_neg h, if_pos h2]
theorem un_wk_v {L : List (Nat × Nat)} {n z : Nat} (h2 : ¬ uf_sh L (uf_rt L z) < 40) : un_wk sy nc L (n + 1) z = ([], uf_ls L (uf_rt L z)) := by
  show (if _ then _ else _) = _
  rw [if_neg (by omega), if_neg h2]
theorem un_wk_st {L : List (Nat × Nat)} : ∀ n z, un_fw nc L n z → un_wk sy nc L (n + 1) z = un_wk sy nc L n z := by
  intro n
  induction n with
  | zero => intro z h; exact False.elim h
  | succ n ih =>
    intro z h
    by_cases hs : uf_sh L (uf_rt L z) < 32
    · rw [un_wk_s hs, un_wk_s hs, ih _ (h hs)]
    · by_cases h4 : uf_sh L (uf_rt L z) < 40
      · rw [un_wk_k hs h4, un_wk_k hs h4]
      · rw [un_wk_v h4, un_wk_v h4]
theorem un_wk_le {L : List (Nat × Nat)} {n m : Nat} (h : n ≤ m) {z : Nat} (hf : un_fw nc L n z) : un_wk sy nc L m z = un_wk sy nc L n z := by
  obtain ⟨d, rfl⟩ : ∃ d, m = n + d := ⟨m - n, by omega⟩
  clear h
  induction d with
  | zero => rfl
  | succ d ih => rw [← Nat.add_assoc, un_wk_st _ _ (un_fw_le (by omega) hf), ih]
/-- any solution reads as the walk reads -/
theorem un_wk_sol (H : un_S V nt sy nc) {L : List (Nat × Nat)} (hL : uf_ok V L) {s : Nat → ch_C} (hs : un_sol nt s L) : ∀ n z, V z → un_fw nc L n z → ch_v s (nt z) = ch_v s (un_wk sy nc L n z) := by
  intro n
  induction n with
  | zero => intro z _ h; exact False.elim h
  | succ n ih =>
    intro z hz h
    have hr := uf_rt_V hL z hz
    have hrr := uf_rt_rt hL z
    by_cases h4 : uf_sh L (uf_rt L z) < 40
    · obtain ⟨a, b, c⟩ := uf_sh_some H.1 hL _ hr hrr h4
      have e : ch_v s (nt z) = ch_v s (nt (uf_sh L (uf_rt L z))) := un_sol_same hs b.symm
      by_cases h3 : uf_sh L (uf_rt L z) < 32
      · obtain ⟨_, q, r⟩ := H.2.1 _ a h3
        rw [un_wk_s h3, e, ch_v_c, ← ih _ q (h h3), ← ch_v_c, ← r]
      · rw [un_wk_k h3 h4, e, (H.2.2 _ (by omega) h4).2]
    · have h40 : uf_sh L (uf_rt L z) = 40 := by
        have := uf_sh_le H.1 hL _ (H.1 _ hr)
        omega
      have hv := uf_sh_none H.1 hL z hz h40
      have hm := uf_ls_min hL (z - 32) (by omega)
      rw [show 32 + (z - 32) = z from by omega] at hm
      have hi := uf_ls_in hL _ hrr (by omega)
      rw [un_wk_v h4, un_sol_same hs hi.symm, (H.2.2 (32 + uf_ls L (uf_rt L z)) (by omega) (by omega)).2]
      rw [show 32 + uf_ls L (uf_rt L z) - 32 = uf_ls L (uf_rt L z) from by omega]
theorem un_wk_b (H : un_S V nt sy nc) {L : List (Nat × Nat)} (hL : uf_ok V L) : ∀ n z, V z → un_fw nc L n z → (un_wk sy nc L n z).2 < 8 ∧ ((un_wk sy nc L n z).2 < 4 → ∃ r, V r ∧ uf_rt L r = r ∧ uf_sh L r = 40 ∧ uf_ls L r = (un_wk sy nc L n z).2 ∧ ((un_wk sy nc L n z).1 = [] → r = uf_rt L z)) := by
  intro n
  induction n with
  | zero => intro z _ h; exact False.elim h
  | succ n ih =>
    intro z hz h
    have hr := uf_rt_V hL z hz
    have hrr := uf_rt_rt hL z
    by_cases h4 : uf_sh L (uf_rt L z) < 40
    · obtain ⟨a, b, c⟩ := uf_sh_some H.1 hL _ hr hrr h4
      by_cases h3 : uf_sh L (uf_rt L z) < 32
      · obtain ⟨_, q, r⟩ := H.2.1 _ a h3
        obtain ⟨i1, i2⟩ := ih _ q (h h3)
        rw [un_wk_s h3]
        refine ⟨i1, fun hb => ?_⟩
        obtain ⟨r, r1, r2, r3, r4, _⟩ := i2 hb
        exact ⟨r, r1, r2, r3, r4, fun z => by exact absurd z (List.cons_ne_nil _ _)⟩
      · rw [un_wk_k h3 h4]
        refine ⟨by show _ - 32 < 8; omega, fun hb => ?_⟩
        have hb' : uf_sh L (uf_rt L z) - 32 < 4 := hb
        exact absurd ⟨by omega, by omega⟩ c
    · have h40 : uf_sh L (uf_rt L z) = 40 := by
        have := uf_sh_le H.1 hL _ (H.1 _ hr)
        omega
      rw [un_wk_v h4]
      have := uf_ls_le4 L (uf_rt L z)
      exact ⟨by show uf_ls L (uf_rt L z) < 8; omega, fun _ => ⟨uf_rt L z, hr, hrr, h40, rfl, fun _ => rfl⟩⟩
/-- all walks end: the good state of the classes -/
def un_G (V : Nat → Prop) (sy nc : Nat → Nat) (L : List (Nat × Nat)) : Prop := uf_ok V L ∧ un_cg V sy nc L (un_same L) ∧ ∀ z, V z → un_fin nc L z
theorem un_bound {L : List (Nat × Nat)} (h : ∀ z, V z → un_fin nc L z) : ∀ m, ∃ n, ∀ z, z < m → V z → un_fw nc L n z := by
  intro m
  induction m with
  | zero => exact ⟨0, fun z hz => absurd hz (Nat.not_lt_zero z)⟩
  | succ m ih =>
    obtain ⟨n, hn⟩ := ih
    by_cases hV : V m
    · obtain ⟨k, hk⟩ := h m hV
      refine ⟨n + k, fun z hz hv => ?_⟩
      by_cases e : z = m
      · subst e; exact un_fw_le (by omega) hk
      · exact un_fw_le (by omega) (hn z (by omega) hv)
    · refine ⟨n, fun z hz hv => hn z ?_ hv⟩
      by_cases e : z = m
      · subst e; exact absurd hv hV
      · omega
/-- the substitution of a good state: its walks -/
theorem un_T (H : un_S V nt sy nc) {L : List (Nat × Nat)} (G : un_G V sy nc L) : ∃ T : Nat → ch_C, ch_nf T ∧ (∀ s, ch_sv s T ↔ un_sol nt s L) ∧ ∃ n, ∀ z, V z → un_fw nc L n z ∧ un_wk sy nc L n z = ch_v T (nt z) := by
  obtain ⟨hL, hc, hf⟩ := G
  obtain ⟨n, hn⟩ := un_bound hf 40
  have hn' : ∀ z, V z → un_fw nc L n z := fun z hz => hn z (H.1 z hz) hz
  have hV32 : ∀ v, v < 4 → V (32 + v) ∧ nt (32 + v) = ([], v) := fun v hv => by
    obtain ⟨a, b⟩ := H.2.2 (32 + v) (by omega) (by omega)
    rw [show 32 + v - 32 = v from by omega] at b
    exact ⟨a, b⟩
  have key : ∀ j z, V z → un_fw nc L j z → un_wk sy nc L j z = ch_v (fun v => un_wk sy nc L n (32 + v)) (nt z) := by
    intro j
    induction j with
    | zero => intro z _ h; exact False.elim h
    | succ j ih =>
      intro z hz h
      by_cases hv : un_var z
      · obtain ⟨v, rfl⟩ : ∃ v, z = 32 + v := ⟨z - 32, by have := hv.1; omega⟩
        have hv4 : v < 4 := by have := hv.2; omega
        rw [(hV32 v hv4).2, ch_v_var hv4]
        show un_wk sy nc L (j + 1) (32 + v) = un_wk sy nc L n (32 + v)
        have h1 := un_wk_le (sy := sy) (m := n + (j + 1)) (by omega) h
        have h2 := un_wk_le (sy := sy) (m := n + (j + 1)) (by omega) (hn' _ hz)
        rw [← h1, h2]
      · have hr := uf_rt_V hL z hz
        have hrr := uf_rt_rt hL z
        have h4 : uf_sh L (uf_rt L z) < 40 := by
          have h1 := uf_sh_le H.1 hL _ (H.1 _ hr)
          by_cases e : uf_sh L (uf_rt L z) = 40
          · exact absurd (uf_sh_none H.1 hL z hz e) hv
          · omega
        obtain ⟨a, b, c⟩ := uf_sh_some H.1 hL _ hr hrr h4
        have cmp := hc z (uf_sh L (uf_rt L z)) hz a hv c b.symm
        by_cases h3 : uf_sh L (uf_rt L z) < 32
        · have hz3 : z < 32 := by rcases cmp with e | e <;> omega
          have hsy : sy z = sy (uf_sh L (uf_rt L z)) := by
            rcases cmp with e | e
            · exact congrArg sy e
            · exact e.2.2.1
          have hnc : uf_rt L (nc z) = uf_rt L (nc (uf_sh L (uf_rt L z))) := by
            rcases cmp with e | e
            · exact congrArg (fun q => uf_rt L (nc q)) e
            · exact e.2.2.2
          obtain ⟨_, q, r⟩ := H.2.1 z hz hz3
          rw [un_wk_s h3, r, ch_v_c, ← ih _ q (un_fw_same hnc.symm (h h3)), hsy, un_wk_same hnc]
        · have hze : z = uf_sh L (uf_rt L z) := by
            rcases cmp with e | e
            · exact e
            · omega
          have h36 : ¬ z - 32 < 4 := fun q => hv ⟨by omega, by omega⟩
          rw [un_wk_k h3 h4, ← hze, (H.2.2 z (by omega) (by omega)).2, ch_v_ge h36]
  refine ⟨fun v => un_wk sy nc L n (32 + v), ?_, ?_, n, fun z hz => ⟨hn' z hz, key n z hz (hn' z hz)⟩⟩
  · intro v hv
    obtain ⟨b1, b2⟩ := un_wk_b H hL n (32 + v) (hV32 v hv).1 (hn' _ (hV32 v hv).1)
    refine ⟨b1, fun hb => ?_, fun hw hb => ?_⟩
    · obtain ⟨r, r1, r2, r3, r4, _⟩ := b2 hb
      show un_wk sy nc L n (32 + (un_wk sy nc L n (32 + v)).2) = ([], (un_wk sy nc L n (32 + v)).2)
      rw [← r4]
      have hi := uf_ls_in hL r r2 (by rw [r4]; exact hb)
      have hpos : ∃ m, n = m + 1 := by
        cases n with
        | zero => exact absurd (hn' _ (hV32 v hv).1) (fun z => z)
        | succ m => exact ⟨m, rfl⟩
      obtain ⟨m, rfl⟩ := hpos
      rw [un_wk_v (by rw [hi, r3]; omega), hi]
    · obtain ⟨r, r1, r2, r3, r4, r5⟩ := b2 hb
      have := uf_ls_min hL v hv
      rw [← r5 hw, r4] at this
      exact this
  · intro s
    constructor
    · intro h p hp
      have hpV : V p.1 ∧ V p.2 := by
        have : ∀ {M : List (Nat × Nat)}, uf_ok V M → ∀ p, p ∈ M → V p.1 ∧ V p.2 := by
          intro M
          induction M with
          | nil => intro _ p hp; exact absurd hp List.not_mem_nil
          | cons q M ih =>
            intro hM p hp
            rcases List.mem_cons.mp hp with e | e
            · rw [e]; exact ⟨hM.1, hM.2.1⟩
            · exact ih hM.2.2.2.2.2 p e
        exact this hL p hp
      have e1 := key n p.1 hpV.1 (hn' _ hpV.1)
      have e2 := key n p.2 hpV.2 (hn' _ hpV.2)
      rw [← ch_sv_v h (nt p.1), ← ch_sv_v h (nt p.2), ← e1, ← e2, un_wk_same (uf_rt_mem hL p hp)]
    · intro h v hv
      have := un_wk_sol H hL h n (32 + v) (hV32 v hv).1 (hn' _ (hV32 v hv).1)
      rw [(hV32 v hv).2, ch_v_var hv] at this
      exact this
/-! how long a walk may be -/
def un_sq (nc : Nat → Nat) (L : List (Nat × Nat)) (z : Nat) : Nat → Nat
  | 0 => z
  | i + 1 => nc (uf_sh L (uf_rt L (un_sq nc L z i)))
theorem un_sq_s {L : List (Nat × Nat)} : ∀ i z, un_sq nc L (nc (uf_sh L (uf_rt L z))) i = un_sq nc L z (i + 1) := by
  intro i
  induction i with
  | zero => intro z; rfl
  | succ i ih => intro z; show nc (uf_sh L (uf_rt L (un_sq nc L _ i))) = _; rw [ih z]; rfl
theorem un_nfw {L : List (Nat × Nat)} : ∀ n z, ¬ un_fw nc L n z → ∀ i, i < n → uf_sh L (uf_rt L (un_sq nc L z i)) < 32 := by
  intro n
  induction n with
  | zero => intro z _ i hi; omega
  | succ n ih =>
    intro z h i hi
    have h1 : uf_sh L (uf_rt L z) < 32 := by
      apply Classical.byContradiction
      intro g
      exact h (fun a => absurd a g)
    have h2 : ¬ un_fw nc L n (nc (uf_sh L (uf_rt L z))) := fun g => h (fun _ => g)
    cases i with
    | zero => exact h1
    | succ i =>
      rw [← un_sq_s]
      exact ih _ h2 i (by omega)
theorem un_walk_len (H : un_S V nt sy nc) {L : List (Nat × Nat)} (hL : uf_ok V L) {s : Nat → ch_C} (hs : un_sol nt s L) {z : Nat} (hz : V z) (n : Nat) (hn : ∀ i, i < n → uf_sh L (uf_rt L (un_sq nc L z i)) < 32) : ∀ i, i ≤ n → V (un_sq nc L z i) ∧ (ch_v s (nt (un_sq nc L z i))).1.length + i = (ch_v s (nt z)).1.length := by
  intro i
  induction i with
  | zero => intro _; exact ⟨hz, rfl⟩
  | succ i ih =>
    intro hi
    obtain ⟨a, b⟩ := ih (by omega)
    have hr := uf_rt_V hL _ a
    have hrr := uf_rt_rt hL (un_sq nc L z i)
    have h3 := hn i (by omega)
    obtain ⟨p, q, r⟩ := uf_sh_some H.1 hL _ hr hrr (by omega)
    obtain ⟨_, t, w⟩ := H.2.1 _ p h3
    refine ⟨t, ?_⟩
    have e : ch_v s (nt (un_sq nc L z i)) = ch_v s (nt (uf_sh L (uf_rt L (un_sq nc L z i)))) := un_sol_same hs q.symm
    rw [w, ch_v_c] at e
    rw [e] at b
    have b' : (ch_v s (nt (un_sq nc L z (i + 1)))).1.length + 1 + i = (ch_v s (nt z)).1.length := b
    omega
theorem un_walk_n (H : un_S V nt sy nc) {L : List (Nat × Nat)} (hL : uf_ok V L) {s : Nat → ch_C} (hs : un_sol nt s L) {z : Nat} (hz : V z) (n : Nat) (hn : ∀ i, i < n → uf_sh L (uf_rt L (un_sq nc L z i)) < 32) : n ≤ 24 := by
  have wl := un_walk_len H hL hs hz n hn
  have hsh : ∀ i, i < n → V (uf_sh L (uf_rt L (un_sq nc L z i))) ∧ uf_rt L (uf_sh L (uf_rt L (un_sq nc L z i))) = uf_rt L (un_sq nc L z i) := by
    intro i hi
    have hr := uf_rt_V hL _ (wl i (by omega)).1
    have hrr := uf_rt_rt hL (un_sq nc L z i)
    obtain ⟨p, q, r⟩ := uf_sh_some H.1 hL _ hr hrr (by have := hn i hi; omega)
    exact ⟨p, q⟩
  apply ac_ph1 n 24 (fun i => uf_sh L (uf_rt L (un_sq nc L z i)) / 4 * 3 + uf_sh L (uf_rt L (un_sq nc L z i)) % 4)
  · intro i hi
    have h1 := hn i hi
    have h2 := (H.2.1 _ (hsh i hi).1 h1).1
    show uf_sh L (uf_rt L (un_sq nc L z i)) / 4 * 3 + uf_sh L (uf_rt L (un_sq nc L z i)) % 4 < 24
    omega
  · intro i j hij hj e
    have e' : uf_sh L (uf_rt L (un_sq nc L z i)) / 4 * 3 + uf_sh L (uf_rt L (un_sq nc L z i)) % 4 = uf_sh L (uf_rt L (un_sq nc L z j)) / 4 * 3 + uf_sh L (uf_rt L (un_sq nc L z j)) % 4 := e
    have h2 := (H.2.1 _ (hsh i (by omega)).1 (hn i (by omega))).1
    have h3 := (H.2.1 _ (hsh j hj).1 (hn j hj)).1
    have e2 : uf_sh L (uf_rt L (un_sq nc L z i)) = uf_sh L (uf_rt L (un_sq nc L z j)) := by omega
    have e3 : uf_rt L (un_sq nc L z i) = uf_rt L (un_sq nc L z j) := by
      rw [← (hsh i (by omega)).2, ← (hsh j hj).2, e2]
    have e4 := un_sol_same hs e3
    have l1 := (wl i (by omega)).2
    have l2 := (wl j (by omega)).2
    rw [e4] at l1
    omega
/-- a solution bounds every walk -/
theorem un_fw25 (H : un_S V nt sy nc) {L : List (Nat × Nat)} (hL : uf_ok V L) {s : Nat → ch_C} (hs : un_sol nt s L) {z : Nat} (hz : V z) : un_fw nc L 25 z := by
  apply Classical.byContradiction
  intro h
  have := un_walk_n H hL hs hz 25 (un_nfw 25 z h)
  omega
theorem un_wk_len {L : List (Nat × Nat)} : ∀ n z, un_fw nc L (n + 1) z → (un_wk sy nc L (n + 1) z).1.length ≤ n := by
  intro n
  induction n with
  | zero =>
    intro z h
    have h1 : ¬ uf_sh L (uf_rt L z) < 32 := fun g => h g
    by_cases h4 : uf_sh L (uf_rt L z) < 40
    · rw [un_wk_k h1 h4]; exact Nat.le_refl _
    · rw [un_wk_v h4]; exact Nat.le_refl _
  | succ n ih =>
    intro z h
    by_cases h1 : uf_sh L (uf_rt L z) < 32
    · rw [un_wk_s h1]
      have := ih _ (h h1)
      show (_ :: (un_wk sy nc L (n + 1) _).1).length ≤ n + 1
      rw [List.length_cons]; omega
    · by_cases h4 : uf_sh L (uf_rt L z) < 40
      · rw [un_wk_k h1 h4]; exact Nat.zero_le _
      · rw [un_wk_v h4]; exact Nat.zero_le _
end UN
end
section
/-! the downward merge of two nodes -/
def un_on (V : Nat → Prop) (nc : Nat → Nat) (L : List (Nat × Nat)) (x0 z : Nat) : Prop :=
  ∀ Q : Nat → Prop, (∀ a b, V a → V b → uf_rt L a = uf_rt L b → Q a → Q b) → (∀ f, V f → f < 32 → Q f → Q (nc f)) → Q x0 → Q z
def un_old (V : Nat → Prop) (nc : Nat → Nat) (L0 : List (Nat × Nat)) (x0 : Nat) (L : List (Nat × Nat)) : Prop :=
  ∀ z, V z → uf_sh L (uf_rt L z) = uf_sh L0 (uf_rt L0 z) ∨ un_on V nc L x0 z
/-- within the merge: the pair x, y is still to be made equal -/
def un_I (V : Nat → Prop) (sy nc : Nat → Nat) (L0 : List (Nat × Nat)) (x0 : Nat) (L : List (Nat × Nat)) (x y : Nat) : Prop :=
  uf_ok V L ∧ V x ∧ V y ∧ un_cg V sy nc L (uf_e L x y) ∧ un_on V nc L x0 x ∧ un_old V nc L0 x0 L
/-- the merge is through -/
def un_D (V : Nat → Prop) (sy nc : Nat → Nat) (L0 : List (Nat × Nat)) (x0 : Nat) (L : List (Nat × Nat)) : Prop :=
  uf_ok V L ∧ un_cg V sy nc L (un_same L) ∧ un_old V nc L0 x0 L
def un_or (L : List (Nat × Nat)) (x y k d : Nat) : Prop := (k = uf_rt L x ∧ d = uf_rt L y) ∨ (k = uf_rt L y ∧ d = uf_rt L x)
section UY
variable {V : Nat → Prop} {nt : Nat → ch_C} {sy nc : Nat → Nat}
theorem un_on_grow {L : List (Nat × Nat)} {k d x0 z : Nat} (h : un_on V nc L x0 z) : un_on V nc ((k, d) :: L) x0 z :=
  fun Q h1 h2 h3 => h Q (fun a b ha hb e => h1 a b ha hb (uf_grow e)) h2 h3
theorem un_on_same {L : List (Nat × Nat)} {x0 z w : Nat} (hz : V z) (hw : V w) (e : uf_rt L z = uf_rt L w) (h : un_on V nc L x0 z) : un_on V nc L x0 w :=
  fun Q h1 h2 h3 => h1 z w hz hw e (h Q h1 h2 h3)
theorem un_on_nc {L : List (Nat × Nat)} {x0 z : Nat} (hz : V z) (h3 : z < 32) (h : un_on V nc L x0 z) : un_on V nc L x0 (nc z) :=
  fun Q h1 h2 h4 => h2 z hz h3 (h Q h1 h2 h4)
theorem un_start {L : List (Nat × Nat)} (G : un_G V sy nc L) {x y : Nat} (hx : V x) (hy : V y) : un_I V sy nc L x L x y := by
  refine ⟨G.1, hx, hy, ?_, fun Q _ _ h => h, fun z _ => Or.inl rfl⟩
  intro f g hf hg nf ng e
  rcases G.2.1 f g hf hg nf ng e with h | ⟨a, b, c, d⟩
  · exact Or.inl h
  · exact Or.inr ⟨a, b, c, Or.inl d⟩
theorem un_same_D {L0 L : List (Nat × Nat)} {x0 x y : Nat} (I : un_I V sy nc L0 x0 L x y) (e : uf_rt L x = uf_rt L y) : un_D V sy nc L0 x0 L := by
  obtain ⟨h1, h2, h3, h4, h5, h6⟩ := I
  refine ⟨h1, ?_, h6⟩
  intro f g hf hg nf ng he
  rcases h4 f g hf hg nf ng he with h | ⟨a, b, c, d⟩
  · exact Or.inl h
  · refine Or.inr ⟨a, b, c, ?_⟩
    unfold uf_e at d
    unfold un_same
    rcases d with d | ⟨d, d'⟩ | ⟨d, d'⟩
    · exact d
    · rw [d, d', e]
    · rw [d, d', e]
theorem un_or_ne {L : List (Nat × Nat)} {x y k d : Nat} (o : un_or L x y k d) (hne : ¬ uf_rt L x = uf_rt L y) : k ≠ d := by
  unfold un_or at o
  omega
theorem un_ok_mg {L : List (Nat × Nat)} {x y k d : Nat} (hL : uf_ok V L) (hx : V x) (hy : V y) (o : un_or L x y k d) (hne : ¬ uf_rt L x = uf_rt L y) : uf_ok V ((k, d) :: L) := by
  have h := un_or_ne o hne
  rcases o with ⟨a, b⟩ | ⟨a, b⟩
  · subst a b
    exact ⟨uf_rt_V hL x hx, uf_rt_V hL y hy, h, uf_rt_rt hL x, uf_rt_rt hL y, hL⟩
  · subst a b
    exact ⟨uf_rt_V hL y hy, uf_rt_V hL x hx, h, uf_rt_rt hL y, uf_rt_rt hL x, hL⟩
theorem un_old_mg {L0 L : List (Nat × Nat)} {x0 x y k d : Nat} (I : un_I V sy nc L0 x0 L x y) (o : un_or L x y k d) (hne : ¬ uf_rt L x = uf_rt L y) : un_old V nc L0 x0 ((k, d) :: L) := by
  obtain ⟨h1, h2, h3, h4, h5, h6⟩ := I
  have hkd := un_or_ne o hne
  intro z hz
  rcases h6 z hz with h | h
  · by_cases hx : uf_rt L z = uf_rt L x
    · right
      exact un_on_same h2 hz (uf_grow hx.symm) (un_on_grow h5)
    · by_cases hy : uf_rt L z = uf_rt L y
      · right
        refine un_on_same h2 hz ?_ (un_on_grow h5)
        exact (uf_e_mg hkd o).mpr (Or.inr (Or.inl ⟨rfl, hy⟩))
      · left
        have hzd : ¬ uf_rt L z = d := by
          rcases o with ⟨a, b⟩ | ⟨a, b⟩
          · rw [b]; exact hy
          · rw [b]; exact hx
        have hzk : ¬ uf_rt L z = k := by
          rcases o with ⟨a, b⟩ | ⟨a, b⟩
          · rw [a]; exact hx
          · rw [a]; exact hy
        rw [uf_rt_ne hzd, uf_sh_n hzk]
        exact h
  · exact Or.inr (un_on_grow h)
/-- classes grew by x and y: the old agreement within each of them -/
theorem un_cg_in {L0 L : List (Nat × Nat)} {x0 x y k d : Nat} (I : un_I V sy nc L0 x0 L x y) (o : un_or L x y k d) (hne : ¬ uf_rt L x = uf_rt L y) : un_cg V sy nc L (un_same ((k, d) :: L)) := by
  intro f g hf hg nf ng e
  rcases I.2.2.2.1 f g hf hg nf ng e with h | ⟨a, b, c, h⟩
  · exact Or.inl h
  · exact Or.inr ⟨a, b, c, (uf_e_mg (un_or_ne o hne) o).mpr h⟩
/-- one of the two had no shape: the merge is through -/
theorem un_none_D (H : un_S V nt sy nc) {L0 L : List (Nat × Nat)} {x0 x y k d : Nat} (I : un_I V sy nc L0 x0 L x y) (o : un_or L x y k d) (hne : ¬ uf_rt L x = uf_rt L y) (h : uf_sh L (uf_rt L x) = 40 ∨ uf_sh L (uf_rt L y) = 40) : un_D V sy nc L0 x0 ((k, d) :: L) := by
  have hin := un_cg_in I o hne
  have hold := un_old_mg I o hne
  obtain ⟨h1, h2, h3, h4, h5, h6⟩ := I
  refine ⟨un_ok_mg h1 h2 h3 o hne, ?_, hold⟩
  intro f g hf hg nf ng e
  have e' := (uf_e_mg (un_or_ne o hne) o).mp e
  have novar : ∀ z, V z → ¬ un_var z → uf_sh L (uf_rt L z) = 40 → False := fun z hz nz q => nz (uf_sh_none H.1 h1 z hz q)
  rcases e' with e' | ⟨a, b⟩ | ⟨a, b⟩
  · exact hin f g hf hg nf ng e'
  · rcases h with h | h
    · exact (novar f hf nf (by rw [a]; exact h)).elim
    · exact (novar g hg ng (by rw [b]; exact h)).elim
  · rcases h with h | h
    · exact (novar g hg ng (by rw [b]; exact h)).elim
    · exact (novar f hf nf (by rw [a]; exact h)).elim
theorem un_form (H : un_S V nt sy nc) {L : List (Nat × Nat)} (hL : uf_ok V L) {x : Nat} (hx : V x) (h : ¬ uf_sh L (uf_rt L x) = 40) : V (uf_sh L (uf_rt L x)) ∧ uf_rt L (uf_sh L (uf_rt L x)) = uf_rt L x ∧ ¬ un_var (uf_sh L (uf_rt L x)) ∧ uf_sh L (uf_rt L x) < 40 := by
  have hr := uf_rt_V hL x hx
  have h4 := uf_sh_le H.1 hL _ (H.1 _ hr)
  have h5 : uf_sh L (uf_rt L x) < 40 := by omega
  obtain ⟨a, b, c⟩ := uf_sh_some H.1 hL _ hr (uf_rt_rt hL x) h5
  exact ⟨a, b, c, h5⟩
/-- a constant meets something else: no solution -/
theorem un_clash (H : un_S V nt sy nc) {L : List (Nat × Nat)} (hL : uf_ok V L) {x y : Nat} (hx : V x) (hy : V y) (hne : ¬ uf_rt L x = uf_rt L y) (h1 : ¬ uf_sh L (uf_rt L x) = 40) (h2 : ¬ uf_sh L (uf_rt L y) = 40) (h : 32 ≤ uf_sh L (uf_rt L x) ∨ 32 ≤ uf_sh L (uf_rt L y)) : ∀ s, ¬ (un_sol nt s L ∧ un_eq nt s x y) := by
  intro s ⟨hs, he⟩
  obtain ⟨a1, b1, c1, d1⟩ := un_form H hL hx h1
  obtain ⟨a2, b2, c2, d2⟩ := un_form H hL hy h2
  have e : ch_v s (nt (uf_sh L (uf_rt L x))) = ch_v s (nt (uf_sh L (uf_rt L y))) := by
    rw [un_sol_same hs b1, un_sol_same hs b2]; exact he
  have hXY : uf_sh L (uf_rt L x) ≠ uf_sh L (uf_rt L y) := by
    intro q
    apply hne
    rw [← b1, ← b2, q]
  have cst : ∀ f, V f → ¬ un_var f → f < 40 → 32 ≤ f → ch_v s (nt f) = ([], f - 32) := by
    intro f hf nf f4 f3
    have nf' : ¬ (32 ≤ f ∧ f < 36) := nf
    rw [(H.2.2 f f3 f4).2, ch_v_ge (by omega)]
  have sym : ∀ f, V f → f < 32 → ∃ a w b, ch_v s (nt f) = (a :: w, b) := by
    intro f hf f3
    rw [(H.2.1 f hf f3).2.2, ch_v_c]
    exact ⟨_, _, _, rfl⟩
  by_cases hX : 32 ≤ uf_sh L (uf_rt L x)
  · rw [cst _ a1 c1 d1 hX] at e
    by_cases hY : 32 ≤ uf_sh L (uf_rt L y)
    · rw [cst _ a2 c2 d2 hY] at e
      have := congrArg Prod.snd e
      have this' : uf_sh L (uf_rt L x) - 32 = uf_sh L (uf_rt L y) - 32 := this
      omega
    · obtain ⟨a, w, b, q⟩ := sym _ a2 (by omega)
      rw [q] at e
      exact absurd (congrArg Prod.fst e) (List.cons_ne_nil _ _).symm
  · have hY : 32 ≤ uf_sh L (uf_rt L y) := by omega
    rw [cst _ a2 c2 d2 hY] at e
    obtain ⟨a, w, b, q⟩ := sym _ a1 (by omega)
    rw [q] at e
    exact absurd (congrArg Prod.fst e) (List.cons_ne_nil _ _)
theorem un_clash2 (H : un_S V nt sy nc) {L : List (Nat × Nat)} (hL : uf_ok V L) {x y : Nat} (hx : V x) (hy : V y) (h1 : uf_sh L (uf_rt L x) < 32) (h2 : uf_sh L (uf_rt L y) < 32) {s : Nat → ch_C} (hs : un_sol nt s L) : un_eq nt s x y ↔ sy (uf_sh L (uf_rt L x)) = sy (uf_sh L (uf_rt L y)) ∧ un_eq nt s (nc (uf_sh L (uf_rt L x))) (nc (uf_sh L (uf_rt L y))) := by
  obtain ⟨a1, b1, c1, d1⟩ := un_form H hL hx (by omega)
  obtain ⟨a2, b2, c2, d2⟩ := un_form H hL hy (by omega)
  unfold un_eq
  rw [← un_sol_same hs b1, ← un_sol_same hs b2, (H.2.1 _ a1 h1).2.2, (H.2.1 _ a2 h2).2.2, ch_v_c, ch_v_c]
  constructor
  · exact ch_c_inj
  · intro ⟨e1, e2⟩; rw [e1, e2]
/-- both shapes carry the same symbol: on to the children -/
theorem un_next (H : un_S V nt sy nc) {L0 L : List (Nat × Nat)} {x0 x y k d : Nat} (I : un_I V sy nc L0 x0 L x y) (o : un_or L x y k d) (hne : ¬ uf_rt L x = uf_rt L y) (h1 : uf_sh L (uf_rt L x) < 32) (h2 : uf_sh L (uf_rt L y) < 32) (hs : sy (uf_sh L (uf_rt L x)) = sy (uf_sh L (uf_rt L y))) : un_I V sy nc L0 x0 ((k, d) :: L) (nc (uf_sh L (uf_rt L x))) (nc (uf_sh L (uf_rt L y))) := by
  have hin := un_cg_in I o hne
  have hold := un_old_mg I o hne
  obtain ⟨g1, g2, g3, g4, g5, g6⟩ := I
  have hkd := un_or_ne o hne
  obtain ⟨a1, b1, c1, d1⟩ := un_form H g1 g2 (by omega)
  obtain ⟨a2, b2, c2, d2⟩ := un_form H g1 g3 (by omega)
  refine ⟨un_ok_mg g1 g2 g3 o hne, (H.2.1 _ a1 h1).2.1, (H.2.1 _ a2 h2).2.1, ?_, ?_, hold⟩
  · generalize hfx : uf_sh L (uf_rt L x) = fx at *
    generalize hfy : uf_sh L (uf_rt L y) = fy at *
    have cmp : ∀ f r, V f → V r → ¬ un_var f → ¬ un_var r → r < 32 → uf_rt L f = uf_rt L r → f < 32 ∧ sy f = sy r ∧ un_same ((k, d) :: L) (nc f) (nc r) := by
      intro f r hf hr nf nr r3 e
      rcases hin f r hf hr nf nr e with h | ⟨a, b, c, h⟩
      · subst h; exact ⟨r3, rfl, rfl⟩
      · exact ⟨a, c, h⟩
    intro f g hf hg nf ng e
    rcases (uf_e_mg hkd o).mp e with e' | ⟨a, b⟩ | ⟨a, b⟩
    · rcases hin f g hf hg nf ng e' with h | ⟨a, b, c, h⟩
      · exact Or.inl h
      · exact Or.inr ⟨a, b, c, Or.inl h⟩
    · obtain ⟨p1, p2, p3⟩ := cmp f fx hf a1 nf c1 h1 (a.trans b1.symm)
      obtain ⟨q1, q2, q3⟩ := cmp g fy hg a2 ng c2 h2 (b.trans b2.symm)
      exact Or.inr ⟨p1, q1, by rw [p2, q2, hs], Or.inr (Or.inl ⟨p3, q3⟩)⟩
    · obtain ⟨p1, p2, p3⟩ := cmp f fy hf a2 nf c2 h2 (a.trans b2.symm)
      obtain ⟨q1, q2, q3⟩ := cmp g fx hg a1 ng c1 h1 (b.trans b1.symm)
      exact Or.inr ⟨p1, q1, by rw [p2, q2, hs], Or.inr (Or.inr ⟨p3, q3⟩)⟩
  · exact un_on_nc a1 h1 (un_on_same g2 a1 (uf_grow b1.symm) (un_on_grow g5))
/-- walks that ended still end, if the walk from the first node ends -/
theorem un_D_G (H : un_S V nt sy nc) {L0 L : List (Nat × Nat)} {x0 : Nat} (G : un_G V sy nc L0) (D : un_D V sy nc L0 x0 L) (hf : un_fin nc L x0) : un_G V sy nc L := by
  obtain ⟨h1, h2, h3⟩ := D
  have cls : ∀ a b, V a → V b → uf_rt L a = uf_rt L b → un_fin nc L a → un_fin nc L b := fun a b _ _ e ⟨n, h⟩ => ⟨n, un_fw_same e h⟩
  have dn : ∀ f, V f → f < 32 → un_fin nc L f → un_fin nc L (nc f) := by
    intro f hV f3 ⟨n, h⟩
    have nf : ¬ un_var f := fun q => by have := q.1; omega
    have h40 : ¬ uf_sh L (uf_rt L f) = 40 := fun q => nf (uf_sh_none H.1 h1 f hV q)
    obtain ⟨a, b, c, d⟩ := un_form H h1 hV h40
    cases n with
    | zero => exact False.elim h
    | succ n =>
      rcases h2 f _ hV a nf c b.symm with e | ⟨p, q, r, t⟩
      · have h' := h (by rw [← e]; exact f3)
        rw [← e] at h'
        exact ⟨n, h'⟩
      · exact ⟨n, un_fw_same t.symm (h q)⟩
  refine ⟨h1, h2, ?_⟩
  have on : ∀ z, un_on V nc L x0 z → un_fin nc L z := fun z hz => hz (un_fin nc L) cls dn hf
  have key : ∀ n z, V z → un_fw nc L0 n z → un_fin nc L z := by
    intro n
    induction n with
    | zero => intro z _ h; exact False.elim h
    | succ n ih =>
      intro z hz h
      rcases h3 z hz with e | e
      · by_cases h32 : uf_sh L (uf_rt L z) < 32
        · obtain ⟨a, b, c, d⟩ := un_form H h1 hz (by omega)
          have hV : V (nc (uf_sh L (uf_rt L z))) := (H.2.1 _ a h32).2.1
          have h' : un_fw nc L0 n (nc (uf_sh L (uf_rt L z))) := by
            rw [e] at h32 ⊢
            exact h h32
          obtain ⟨m, hm⟩ := ih _ hV h'
          exact ⟨m + 1, fun _ => hm⟩
        · exact ⟨1, fun q => absurd q h32⟩
      · exact on z e
  intro z hz
  obtain ⟨n, hn⟩ := G.2.2 z hz
  exact key n z hz hn
theorem un_G_nil (H : un_S V nt sy nc) : un_G V sy nc [] := by
  refine ⟨True.intro, fun f g _ _ _ _ e => Or.inl e, ?_⟩
  have sh0 : ∀ z, uf_sh [] z = if 32 ≤ z ∧ z < 36 then 40 else z := fun _ => rfl
  intro z hz
  have wl := fun (s : Nat → ch_C) => un_fw25 H (L := []) True.intro (s := s) (fun p hp => absurd hp List.not_mem_nil) hz
  exact ⟨25, wl (fun _ => ([], 0))⟩
end UY
end
section
/-! vectors as numbers: fields of given widths, the first place highest -/
def rx_f (w : Nat → Nat) : Nat → Nat → Nat
  | 0, _ => 0
  | n + 1, a => w a + rx_f w n (a + 1)
/-- the shift of field b among A fields -/
def rx_s (w : Nat → Nat) (A b : Nat) : Nat := rx_f w (A - 1 - b) (b + 1)
def rx_e (w : Nat → Nat) (A c b : Nat) : Nat := c / 2 ^ rx_s w A b % 2 ^ w b
def rx_c (w v : Nat → Nat) : Nat → Nat → Nat
  | 0, _ => 0
  | n + 1, a => v a * 2 ^ rx_f w n (a + 1) + rx_c w v n (a + 1)
theorem rx_f_s (w : Nat → Nat) {A b : Nat} (h : b < A) : rx_f w (A - b) b = w b + rx_s w A b := by
  obtain ⟨n, hn⟩ : ∃ n, A - b = n + 1 := ⟨A - b - 1, by omega⟩
  rw [hn]
  show w b + rx_f w n (b + 1) = w b + rx_f w (A - 1 - b) (b + 1)
  rw [show A - 1 - b = n from by omega]
theorem rx_f_mono (w : Nat → Nat) {A : Nat} : ∀ (d a : Nat), a + d ≤ A → rx_f w (A - (a + d)) (a + d) ≤ rx_f w (A - a) a := by
  intro d
  induction d with
  | zero => intro a _; exact Nat.le_refl _
  | succ d ih =>
    intro a h
    have h1 := ih (a + 1) (by omega)
    rw [show a + 1 + d = a + (d + 1) from by omega] at h1
    have h2 := rx_f_s w (A := A) (b := a) (by omega)
    have h3 : rx_s w A a = rx_f w (A - (a + 1)) (a + 1) := by
      show rx_f w (A - 1 - a) (a + 1) = _
      rw [show A - 1 - a = A - (a + 1) from by omega]
    omega
theorem rx_in (w : Nat → Nat) {A a b : Nat} (hab : a < b) (hb : b < A) : rx_s w A b + w b ≤ rx_s w A a := by
  have h1 := rx_f_s w hb
  have h2 := rx_f_mono w (A := A) (b - (a + 1)) (a + 1) (by omega)
  rw [show a + 1 + (b - (a + 1)) = b from by omega] at h2
  have h3 : rx_s w A a = rx_f w (A - (a + 1)) (a + 1) := by
    show rx_f w (A - 1 - a) (a + 1) = _
    rw [show A - 1 - a = A - (a + 1) from by omega]
  omega
theorem rx_split (h S l s t : Nat) (hs : s + t ≤ S) : (h * 2 ^ S + l) / 2 ^ s % 2 ^ t = l / 2 ^ s % 2 ^ t := by
  obtain ⟨r, rfl⟩ : ∃ r, S = s + t + r := ⟨S - (s + t), by omega⟩
  have e : h * 2 ^ (s + t + r) + l = l + 2 ^ s * (2 ^ t * (h * 2 ^ r)) := by
    rw [Nat.pow_add, Nat.pow_add, Nat.add_comm]
    congr 1
    rw [Nat.mul_comm h, Nat.mul_assoc, Nat.mul_assoc, Nat.mul_comm (2 ^ r) h]
  rw [e, Nat.add_mul_div_left _ _ (Nat.two_pow_pos s), Nat.add_mul_mod_self_left]
theorem rx_lt (w v : Nat → Nat) {A : Nat} : ∀ n a, a + n = A → (∀ b, a ≤ b → b < A → v b < 2 ^ w b) → rx_c w v n a < 2 ^ rx_f w n a := by
  intro n
  induction n with
  | zero => intro a _ _; exact Nat.one_pos
  | succ n ih =>
    intro a h hv
    have h1 := ih (a + 1) (by omega) (fun b hb => hv b (by omega))
    have h2 := hv a (by omega) (by omega)
    show v a * 2 ^ rx_f w n (a + 1) + rx_c w v n (a + 1) < 2 ^ (w a + rx_f w n (a + 1))
    rw [Nat.pow_add]
    calc v a * 2 ^ rx_f w n (a + 1) + rx_c w v n (a + 1) < v a * 2 ^ rx_f w n (a + 1) + 2 ^ rx_f w n (a + 1) := by omega
      _ = (v a + 1) * 2 ^ rx_f w n (a + 1) := by rw [Nat.add_mul, Nat.one_mul]
      _ ≤ 2 ^ w a * 2 ^ rx_f w n (a + 1) := Nat.mul_le_mul_right _ h2
theorem rx_en (w v : Nat → Nat) {A : Nat} : ∀ n a, a + n = A → (∀ b, a ≤ b → b < A → v b < 2 ^ w b) → ∀ b, a ≤ b → b < A → rx_e w A (rx_c w v n a) b = v b := by
  intro n
  induction n with
  | zero => intro a h _ b h1 h2; omega
  | succ n ih =>
    intro a h hv b h1 h2
    have hl := rx_lt w v n (a + 1) (by omega) (fun b hb => hv b (by omega))
    have hs : rx_s w A a = rx_f w n (a + 1) := by
      show rx_f w (A - 1 - a) (a + 1) = _
      rw [show A - 1 - a = n from by omega]
    show (v a * 2 ^ rx_f w n (a + 1) + rx_c w v n (a + 1)) / 2 ^ rx_s w A b % 2 ^ w b = v b
    by_cases e : b = a
    · subst e
      rw [hs, Nat.add_comm, Nat.add_mul_div_right _ _ (Nat.two_pow_pos _), Nat.div_eq_of_lt hl, Nat.zero_add, Nat.mod_eq_of_lt (hv b h1 h2)]
    · rw [rx_split _ _ _ _ _ (by rw [← hs]; exact rx_in w (by omega) h2)]
      exact ih (a + 1) (by omega) (fun b hb => hv b (by omega)) b (by omega) h2
theorem rx_id (w : Nat → Nat) {A : Nat} : ∀ n a, a + n = A → ∀ c, c < 2 ^ rx_f w n a → rx_c w (rx_e w A c) n a = c := by
  intro n
  induction n with
  | zero =>
    intro a _ c hc
    have hc' : c < 1 := hc
    show 0 = c
    omega
  | succ n ih =>
    intro a h c hc
    have hs : rx_s w A a = rx_f w n (a + 1) := by
      show rx_f w (A - 1 - a) (a + 1) = _
      rw [show A - 1 - a = n from by omega]
    have hc' : c < 2 ^ w a * 2 ^ rx_f w n (a + 1) := by
      rw [← Nat.pow_add]; exact hc
    have htop : c / 2 ^ rx_f w n (a + 1) < 2 ^ w a := (Nat.div_lt_iff_lt_mul (Nat.two_pow_pos _)).mpr hc'
    have e1 : rx_e w A c a = c / 2 ^ rx_f w n (a + 1) := by
      show c / 2 ^ rx_s w A a % 2 ^ w a = _
      rw [hs, Nat.mod_eq_of_lt htop]
    have hlo : c % 2 ^ rx_f w n (a + 1) < 2 ^ rx_f w n (a + 1) := Nat.mod_lt _ (Nat.two_pow_pos _)
    have key := ih (a + 1) (by omega) (c % 2 ^ rx_f w n (a + 1)) hlo
    have same : ∀ b, a + 1 ≤ b → b < A → rx_e w A c b = rx_e w A (c % 2 ^ rx_f w n (a + 1)) b := by
      intro b hb hbA
      show c / 2 ^ rx_s w A b % 2 ^ w b = (c % 2 ^ rx_f w n (a + 1)) / 2 ^ rx_s w A b % 2 ^ w b
      have := rx_split (c / 2 ^ rx_f w n (a + 1)) (rx_f w n (a + 1)) (c % 2 ^ rx_f w n (a + 1)) (rx_s w A b) (w b) (by rw [← hs]; exact rx_in w (by omega) hbA)
      rw [Nat.div_add_mod'] at this
      exact this
    have congr : ∀ (m x : Nat), a + 1 ≤ x → x + m = A → rx_c w (rx_e w A c) m x = rx_c w (rx_e w A (c % 2 ^ rx_f w n (a + 1))) m x := by
      intro m
      induction m with
      | zero => intro x _ _; rfl
      | succ m ihm =>
        intro x hx hm
        show rx_e w A c x * _ + rx_c w (rx_e w A c) m (x + 1) = rx_e w A _ x * _ + rx_c w (rx_e w A _) m (x + 1)
        rw [same x hx (by omega), ihm (x + 1) (by omega) (by omega)]
    show rx_e w A c a * 2 ^ rx_f w n (a + 1) + rx_c w (rx_e w A c) n (a + 1) = c
    rw [congr n (a + 1) (Nat.le_refl _) (by omega), key, e1, Nat.div_add_mod']
/-- one more in field x -/
theorem rx_inc (w v v' : Nat → Nat) {A x : Nat} (hx : x < A) (e1 : v' x = v x + 1) (e2 : ∀ b, b < A → b ≠ x → v' b = v b) : ∀ n a, a + n = A → rx_c w v' n a = rx_c w v n a + (if a ≤ x then 2 ^ rx_s w A x else 0) := by
  intro n
  induction n with
  | zero =>
    intro a h
    rw [if_neg (by omega)]
    rfl
  | succ n ih =>
    intro a h
    have hs : rx_s w A a = rx_f w n (a + 1) := by
      show rx_f w (A - 1 - a) (a + 1) = _
      rw [show A - 1 - a = n from by omega]
    have h1 := ih (a + 1) (by omega)
    show v' a * 2 ^ rx_f w n (a + 1) + rx_c w v' n (a + 1) = v a * 2 ^ rx_f w n (a + 1) + rx_c w v n (a + 1) + _
    rw [h1]
    by_cases e : a = x
    · subst e
      rw [e1, if_neg (by omega), if_pos (Nat.le_refl _), hs, Nat.add_mul, Nat.one_mul]
      omega
    · rw [e2 a (by omega) e]
      by_cases g : a ≤ x
      · rw [if_pos g, if_pos (by omega)]; omega
      · rw [if_neg g, if_neg (by omega)]; omega
theorem rx_mono (w v v' : Nat → Nat) {A : Nat} (h : ∀ b, b < A → v b ≤ v' b) : ∀ n a, a + n = A → rx_c w v n a ≤ rx_c w v' n a := by
  intro n
  induction n with
  | zero => intro a _; exact Nat.le_refl _
  | succ n ih =>
    intro a ha
    exact Nat.add_le_add (Nat.mul_le_mul_right _ (h a (by omega))) (ih (a + 1) (by omega))
theorem rx_congr (w v v' : Nat → Nat) {A : Nat} (h : ∀ b, b < A → v b = v' b) : ∀ n a, a + n = A → rx_c w v n a = rx_c w v' n a := by
  intro n
  induction n with
  | zero => intro a _; rfl
  | succ n ih =>
    intro a ha
    show v a * _ + rx_c w v n (a + 1) = v' a * _ + rx_c w v' n (a + 1)
    rw [h a (by omega), ih (a + 1) (by omega)]
/-- the order of numbers is the order of vectors, whatever the widths -/
theorem rx_ord (w w' u v : Nat → Nat) {A : Nat} (h1 : ∀ b, b < A → u b < 2 ^ w b ∧ u b < 2 ^ w' b) (h2 : ∀ b, b < A → v b < 2 ^ w b ∧ v b < 2 ^ w' b) : ∀ n a, a + n = A → (rx_c w u n a < rx_c w v n a ↔ rx_c w' u n a < rx_c w' v n a) := by
  intro n
  induction n with
  | zero => intro a _; exact Iff.rfl
  | succ n ih =>
    intro a ha
    have i1 := ih (a + 1) (by omega)
    have hlex : ∀ (z : Nat → Nat), (∀ b, b < A → u b < 2 ^ z b) → (∀ b, b < A → v b < 2 ^ z b) → (rx_c z u (n + 1) a < rx_c z v (n + 1) a ↔ u a < v a ∨ (u a = v a ∧ rx_c z u n (a + 1) < rx_c z v n (a + 1))) := by
      intro z hu hv
      have l1 := rx_lt z u (A := A) n (a + 1) (by omega) (fun b _ hb => hu b hb)
      have l2 := rx_lt z v (A := A) n (a + 1) (by omega) (fun b _ hb => hv b hb)
      show u a * 2 ^ rx_f z n (a + 1) + rx_c z u n (a + 1) < v a * 2 ^ rx_f z n (a + 1) + rx_c z v n (a + 1) ↔ _
      generalize 2 ^ rx_f z n (a + 1) = P at l1 l2 ⊢
      generalize rx_c z u n (a + 1) = x at l1 ⊢
      generalize rx_c z v n (a + 1) = y at l2 ⊢
      rcases Nat.lt_trichotomy (u a) (v a) with g | g | g
      · have : (u a + 1) * P ≤ v a * P := Nat.mul_le_mul_right _ g
        rw [Nat.add_mul, Nat.one_mul] at this
        exact ⟨fun _ => Or.inl g, fun _ => by omega⟩
      · rw [g]
        constructor
        · intro q; exact Or.inr ⟨rfl, by omega⟩
        · intro q; rcases q with q | q
          · omega
          · omega
      · have : (v a + 1) * P ≤ u a * P := Nat.mul_le_mul_right _ g
        rw [Nat.add_mul, Nat.one_mul] at this
        constructor
        · intro q; omega
        · intro q; omega
    rw [hlex w (fun b hb => (h1 b hb).1) (fun b hb => (h2 b hb).1), hlex w' (fun b hb => (h1 b hb).2) (fun b hb => (h2 b hb).2), i1]
theorem rx_e_lt (w : Nat → Nat) (A c b : Nat) : rx_e w A c b < 2 ^ w b := Nat.mod_lt _ (Nat.two_pow_pos _)
theorem rx_ext (w : Nat → Nat) {A c d : Nat} (hc : c < 2 ^ rx_f w A 0) (hd : d < 2 ^ rx_f w A 0) (h : ∀ b, b < A → rx_e w A c b = rx_e w A d b) : c = d := by
  rw [← rx_id w A 0 (Nat.zero_add A) c hc, ← rx_id w A 0 (Nat.zero_add A) d hd]
  exact rx_congr w _ _ h A 0 (Nat.zero_add A)
/-- the successor of a number at field x -/
theorem rx_step (w : Nat → Nat) {A c x : Nat} (hc : c < 2 ^ rx_f w A 0) (hx : x < A) (hl : rx_e w A c x + 1 < 2 ^ w x) : c + 2 ^ rx_s w A x < 2 ^ rx_f w A 0 ∧ rx_e w A (c + 2 ^ rx_s w A x) x = rx_e w A c x + 1 ∧ ∀ b, b < A → b ≠ x → rx_e w A (c + 2 ^ rx_s w A x) b = rx_e w A c b := by
  have hv : ∀ b, 0 ≤ b → b < A → (fun b => if b = x then rx_e w A c x + 1 else rx_e w A c b) b < 2 ^ w b := by
    intro b _ _
    show (if b = x then rx_e w A c x + 1 else rx_e w A c b) < 2 ^ w b
    by_cases e : b = x
    · rw [if_pos e, e]; exact hl
    · rw [if_neg e]; exact rx_e_lt w A c b
  have e := rx_inc w (rx_e w A c) (fun b => if b = x then rx_e w A c x + 1 else rx_e w A c b) hx (if_pos rfl) (fun b _ hb => if_neg hb) A 0 (Nat.zero_add A)
  rw [rx_id w A 0 (Nat.zero_add A) c hc, if_pos (Nat.zero_le x)] at e
  rw [← e]
  refine ⟨rx_lt w _ A 0 (Nat.zero_add A) hv, ?_, fun b hb hne => ?_⟩
  · rw [rx_en w _ A 0 (Nat.zero_add A) hv x (Nat.zero_le _) hx]
    exact if_pos rfl
  · rw [rx_en w _ A 0 (Nat.zero_add A) hv b (Nat.zero_le _) hb]
    exact if_neg hne
end
section
/-! minimal solutions of one linear equation within bounds -/
def di_sum (c : Nat → Int) (v : Nat → Nat) : Nat → Int
  | 0 => 0
  | n + 1 => di_sum c v n + c n * (v n : Int)
def di_lv (v : Nat → Nat) : Nat → Nat
  | 0 => 0
  | n + 1 => di_lv v n + v n
def di_sol (A : Nat) (cap : Nat → Nat) (c : Nat → Int) (v : Nat → Nat) : Prop := (∃ b, b < A ∧ 0 < v b) ∧ (∀ b, b < A → v b ≤ cap b) ∧ di_sum c v A = 0
def di_min (A : Nat) (cap : Nat → Nat) (c : Nat → Int) (v : Nat → Nat) : Prop := di_sol A cap c v ∧ ∀ u, di_sol A cap c u → (∀ b, b < A → u b ≤ v b) → ∀ b, b < A → v b ≤ u b
theorem di_sum_congr {c : Nat → Int} {u v : Nat → Nat} : ∀ n, (∀ b, b < n → u b = v b) → di_sum c u n = di_sum c v n := by
  intro n
  induction n with
  | zero => intro _; rfl
  | succ n ih =>
    intro h
    show di_sum c u n + c n * (u n : Int) = di_sum c v n + c n * (v n : Int)
    rw [ih (fun b hb => h b (by omega)), h n (by omega)]
theorem di_lv_congr {u v : Nat → Nat} : ∀ n, (∀ b, b < n → u b = v b) → di_lv u n = di_lv v n := by
  intro n
  induction n with
  | zero => intro _; rfl
  | succ n ih =>
    intro h
    show di_lv u n + u n = di_lv v n + v n
    rw [ih (fun b hb => h b (by omega)), h n (by omega)]
theorem di_lv_le {u v : Nat → Nat} : ∀ n, (∀ b, b < n → u b ≤ v b) → di_lv u n ≤ di_lv v n := by
  intro n
  induction n with
  | zero => intro _; exact Nat.le_refl _
  | succ n ih =>
    intro h
    exact Nat.add_le_add (ih (fun b hb => h b (by omega))) (h n (by omega))
theorem di_lv_lt {u v : Nat → Nat} : ∀ n, (∀ b, b < n → u b ≤ v b) → (∃ b, b < n ∧ u b < v b) → di_lv u n < di_lv v n := by
  intro n
  induction n with
  | zero => intro _ ⟨b, hb, _⟩; omega
  | succ n ih =>
    intro h ⟨b, hb, hlt⟩
    have h1 := h n (by omega)
    show di_lv u n + u n < di_lv v n + v n
    by_cases e : b = n
    · subst e
      have := di_lv_le b (fun x hx => h x (by omega))
      omega
    · have := ih (fun x hx => h x (by omega)) ⟨b, by omega, hlt⟩
      omega
theorem di_lv_inc {u v : Nat → Nat} {x : Nat} (e1 : v x = u x + 1) : ∀ n, x < n → (∀ b, b < n → b ≠ x → v b = u b) → di_lv v n = di_lv u n + 1 := by
  intro n
  induction n with
  | zero => intro h; omega
  | succ n ih =>
    intro h h2
    show di_lv v n + v n = di_lv u n + u n + 1
    by_cases e : x = n
    · subst e
      rw [di_lv_congr x (fun b hb => h2 b (by omega) (by omega)), e1]
      omega
    · rw [ih (by omega) (fun b hb hn => h2 b (by omega) hn), h2 n (by omega) (fun z => e z.symm)]
      omega
theorem di_sum_inc {c : Nat → Int} {u v : Nat → Nat} {x : Nat} (e1 : v x = u x + 1) : ∀ n, x < n → (∀ b, b < n → b ≠ x → v b = u b) → di_sum c v n = di_sum c u n + c x := by
  intro n
  induction n with
  | zero => intro h; omega
  | succ n ih =>
    intro h h2
    show di_sum c v n + c n * (v n : Int) = di_sum c u n + c n * (u n : Int) + c x
    by_cases e : x = n
    · subst e
      rw [di_sum_congr x (fun b hb => h2 b (by omega) (by omega)), e1]
      rw [show ((u x + 1 : Nat) : Int) = (u x : Int) + 1 from rfl, Int.mul_add, Int.mul_one]
      omega
    · rw [ih (by omega) (fun b hb hn => h2 b (by omega) hn), h2 n (by omega) (fun z => e z.symm)]
      omega
theorem di_sum_0 {c : Nat → Int} {u : Nat → Nat} : ∀ n, (∀ b, b < n → u b = 0) → di_sum c u n = 0 := by
  intro n
  induction n with
  | zero => intro _; rfl
  | succ n ih =>
    intro h
    show di_sum c u n + c n * (u n : Int) = 0
    rw [ih (fun b hb => h b (by omega)), h n (by omega)]
    rw [Int.zero_add]
    exact Int.mul_zero _
theorem di_lv_0 {u : Nat → Nat} : ∀ n, (∀ b, b < n → u b = 0) → di_lv u n = 0 := by
  intro n
  induction n with
  | zero => intro _; rfl
  | succ n ih =>
    intro h
    show di_lv u n + u n = 0
    rw [ih (fun b hb => h b (by omega)), h n (by omega)]
theorem di_sum_bd {c : Nat → Int} {u : Nat → Nat} (hc : ∀ b, -3 ≤ c b ∧ c b ≤ 3) : ∀ n, (∀ b, b < n → u b ≤ 3) → -(9 * n : Int) ≤ di_sum c u n ∧ di_sum c u n ≤ 9 * n := by
  intro n
  induction n with
  | zero => intro _; exact ⟨by show -(9 * 0 : Int) ≤ 0; omega, by show (0 : Int) ≤ 9 * 0; omega⟩
  | succ n ih =>
    intro h
    have h1 := ih (fun b hb => h b (by omega))
    have h2 := h n (by omega)
    have h3 := hc n
    have h4 : -9 ≤ c n * (u n : Int) ∧ c n * (u n : Int) ≤ 9 := by
      rcases (by omega : u n = 0 ∨ u n = 1 ∨ u n = 2 ∨ u n = 3) with e | e | e | e <;> rw [e] <;> constructor <;> omega
    show -(9 * ((n + 1 : Nat) : Int)) ≤ di_sum c u n + c n * (u n : Int) ∧ di_sum c u n + c n * (u n : Int) ≤ 9 * ((n + 1 : Nat) : Int)
    omega
/-- a field that leads towards the solution -/
theorem di_dir {c : Nat → Int} {v w : Nat → Nat} {D : Int} : ∀ n, (∀ b, b < n → v b ≤ w b) → (∀ b, b < n → v b < w b → 0 ≤ c b * D) → 0 ≤ D * (di_sum c w n - di_sum c v n) := by
  intro n
  induction n with
  | zero => intro _ _; show (0 : Int) ≤ D * (0 - 0); omega
  | succ n ih =>
    intro h1 h2
    have i := ih (fun b hb => h1 b (by omega)) (fun b hb => h2 b (by omega))
    have e : D * (di_sum c w (n + 1) - di_sum c v (n + 1)) = D * (di_sum c w n - di_sum c v n) + c n * D * ((w n : Int) - (v n : Int)) := by
      show D * (di_sum c w n + c n * (w n : Int) - (di_sum c v n + c n * (v n : Int))) = _
      generalize di_sum c w n = P
      generalize di_sum c v n = Q
      generalize c n = r
      generalize (w n : Int) = s
      generalize (v n : Int) = t
      grind
    rw [e]
    have : 0 ≤ c n * D * ((w n : Int) - (v n : Int)) := by
      have hle := h1 n (by omega)
      by_cases hlt : v n < w n
      · exact Int.mul_nonneg (h2 n (by omega) hlt) (by omega)
      · have : (w n : Int) - (v n : Int) = 0 := by omega
        rw [this, Int.mul_zero]; exact Int.le_refl 0
    omega
theorem di_way {A : Nat} {cap : Nat → Nat} {c : Nat → Int} {v w : Nat → Nat} (hw : di_sol A cap c w) (hle : ∀ b, b < A → v b ≤ w b) (h0 : di_sum c v A ≠ 0) : ∃ a, a < A ∧ v a < w a ∧ c a * di_sum c v A < 0 := by
  apply Classical.byContradiction
  intro hn
  have h := di_dir (c := c) (v := v) (w := w) (D := di_sum c v A) A hle (fun b hb hlt => by
    apply Classical.byContradiction
    intro q
    exact hn ⟨b, hb, hlt, by omega⟩)
  rw [hw.2.2, Int.zero_sub, Int.mul_neg] at h
  have : 0 < di_sum c v A * di_sum c v A := by
    rcases Int.lt_or_gt_of_ne h0 with g | g
    · exact Int.mul_pos_of_neg_of_neg g g
    · exact Int.mul_pos g g
  omega
/-- below every solution there is a minimal one -/
theorem di_below {A : Nat} {cap : Nat → Nat} {c : Nat → Int} : ∀ (n : Nat) (v : Nat → Nat), di_lv v A < n → di_sol A cap c v → ∃ u, di_min A cap c u ∧ ∀ b, b < A → u b ≤ v b := by
  intro n
  induction n with
  | zero => intro v h; omega
  | succ n ih =>
    intro v hl hs
    by_cases hm : di_min A cap c v
    · exact ⟨v, hm, fun _ _ => Nat.le_refl _⟩
    · have : ∃ u, di_sol A cap c u ∧ (∀ b, b < A → u b ≤ v b) ∧ ∃ b, b < A ∧ u b < v b := by
        apply Classical.byContradiction
        intro hn
        apply hm
        refine ⟨hs, fun u hu hle b hb => ?_⟩
        apply Classical.byContradiction
        intro q
        exact hn ⟨u, hu, hle, b, hb, by omega⟩
      obtain ⟨u, hu, hle, hlt⟩ := this
      have hlv := di_lv_lt A hle hlt
      obtain ⟨x, hx, hxu⟩ := ih u (by omega) hu
      exact ⟨x, hx, fun b hb => Nat.le_trans (hxu b hb) (hle b hb)⟩
theorem di_sol_congr {A : Nat} {cap : Nat → Nat} {c : Nat → Int} {u v : Nat → Nat} (h : ∀ b, b < A → u b = v b) (hs : di_sol A cap c u) : di_sol A cap c v := by
  obtain ⟨⟨b, hb, hp⟩, h2, h3⟩ := hs
  exact ⟨⟨b, hb, by rw [← h b hb]; exact hp⟩, fun b hb => by rw [← h b hb]; exact h2 b hb, by rw [← di_sum_congr A h]; exact h3⟩
theorem di_min_congr {A : Nat} {cap : Nat → Nat} {c : Nat → Int} {u v : Nat → Nat} (h : ∀ b, b < A → u b = v b) (hs : di_min A cap c u) : di_min A cap c v := by
  refine ⟨di_sol_congr h hs.1, fun x hx hle b hb => ?_⟩
  rw [← h b hb]
  exact hs.2 x hx (fun y hy => by rw [h y hy]; exact hle y hy) b hb
/-! the basis as numbers -/
/-- bs 0 .. bs (m-1) are minimal solutions in increasing order -/
def di_inc (w : Nat → Nat) (A : Nat) (cap : Nat → Nat) (c : Nat → Int) (bs : Nat → Nat) (m : Nat) : Prop :=
  (∀ k, k < m → bs k < 2 ^ rx_f w A 0 ∧ di_min A cap c (rx_e w A (bs k))) ∧ (∀ i j, i < j → j < m → bs i < bs j)
def di_all (w : Nat → Nat) (A : Nat) (cap : Nat → Nat) (c : Nat → Int) (bs : Nat → Nat) (m : Nat) : Prop :=
  ∀ x, x < 2 ^ rx_f w A 0 → di_min A cap c (rx_e w A x) → ∃ k, k < m ∧ bs k = x
/-- there are more than m of them -/
def di_more (w : Nat → Nat) (A : Nat) (cap : Nat → Nat) (c : Nat → Int) (m : Nat) : Prop :=
  ∃ f : Nat → Nat, (∀ i, i < m + 1 → f i < 2 ^ rx_f w A 0 ∧ di_min A cap c (rx_e w A (f i))) ∧ ∀ i j, i < j → j < m + 1 → f i ≠ f j
theorem di_more_of {w : Nat → Nat} {A : Nat} {cap : Nat → Nat} {c : Nat → Int} {bs : Nat → Nat} {m : Nat} (h : di_inc w A cap c bs m) {x : Nat} (hx : x < 2 ^ rx_f w A 0) (hm : di_min A cap c (rx_e w A x)) (hn : ∀ k, k < m → bs k ≠ x) : di_more w A cap c m := by
  refine ⟨fun i => if i < m then bs i else x, fun i hi => ?_, fun i j hij hj => ?_⟩
  · by_cases e : i < m
    · simp only [if_pos e]; exact h.1 i e
    · simp only [if_neg e]; exact ⟨hx, hm⟩
  · by_cases e : j < m
    · simp only [if_pos e, if_pos (show i < m by omega)]
      have := h.2 i j hij e
      omega
    · simp only [if_neg e, if_pos (show i < m by omega)]
      exact hn i (by omega)
/-- two codings of the vectors within the bounds -/
def di_two (w w' : Nat → Nat) (A : Nat) (cap : Nat → Nat) : Prop := ∀ b, b < A → cap b < 2 ^ w b ∧ cap b < 2 ^ w' b
theorem di_partner {w w' : Nat → Nat} {A : Nat} {cap : Nat → Nat} {c : Nat → Int} (h2 : di_two w w' A cap) {x : Nat} (hm : di_min A cap c (rx_e w A x)) : rx_c w' (rx_e w A x) A 0 < 2 ^ rx_f w' A 0 ∧ (∀ b, b < A → rx_e w' A (rx_c w' (rx_e w A x) A 0) b = rx_e w A x b) ∧ di_min A cap c (rx_e w' A (rx_c w' (rx_e w A x) A 0)) := by
  have hv : ∀ b, 0 ≤ b → b < A → rx_e w A x b < 2 ^ w' b := fun b _ hb => Nat.lt_of_le_of_lt (hm.1.2.1 b hb) (h2 b hb).2
  have he := fun b hb => rx_en w' (rx_e w A x) A 0 (Nat.zero_add A) hv b (Nat.zero_le b) hb
  exact ⟨rx_lt w' _ A 0 (Nat.zero_add A) hv, he, di_min_congr (fun b hb => (he b hb).symm) hm⟩
theorem di_pord {w w' : Nat → Nat} {A : Nat} {cap : Nat → Nat} {c : Nat → Int} (h2 : di_two w w' A cap) {x y : Nat} (hx : x < 2 ^ rx_f w A 0) (hy : y < 2 ^ rx_f w A 0) (mx : di_min A cap c (rx_e w A x)) (my : di_min A cap c (rx_e w A y)) : x < y ↔ rx_c w' (rx_e w A x) A 0 < rx_c w' (rx_e w A y) A 0 := by
  have := rx_ord w w' (rx_e w A x) (rx_e w A y) (fun b hb => ⟨Nat.lt_of_le_of_lt (mx.1.2.1 b hb) (h2 b hb).1, Nat.lt_of_le_of_lt (mx.1.2.1 b hb) (h2 b hb).2⟩) (fun b hb => ⟨Nat.lt_of_le_of_lt (my.1.2.1 b hb) (h2 b hb).1, Nat.lt_of_le_of_lt (my.1.2.1 b hb) (h2 b hb).2⟩) A 0 (Nat.zero_add A)
  rw [rx_id w A 0 (Nat.zero_add A) x hx, rx_id w A 0 (Nat.zero_add A) y hy] at this
  exact this
theorem di_two_s {w w' : Nat → Nat} {A : Nat} {cap : Nat → Nat} (h : di_two w w' A cap) : di_two w' w A cap := fun b hb => ⟨(h b hb).2, (h b hb).1⟩
/-- a list in one coding maps increasingly into the full list in another -/
theorem di_map {w w' : Nat → Nat} {A : Nat} {cap : Nat → Nat} {c : Nat → Int} (h2 : di_two w w' A cap) {bs bs' : Nat → Nat} {m m' : Nat} (h : di_inc w A cap c bs m) (h' : di_inc w' A cap c bs' m') (hall : di_all w' A cap c bs' m') : ∃ f : Nat → Nat, (∀ i, i < m → f i < m' ∧ ∀ b, b < A → rx_e w' A (bs' (f i)) b = rx_e w A (bs i) b) ∧ ∀ i j, i < j → j < m → f i < f j := by
  have hex : ∀ i, ∃ k, i < m → k < m' ∧ bs' k = rx_c w' (rx_e w A (bs i)) A 0 := by
    intro i
    by_cases hi : i < m
    · obtain ⟨p1, p2, p3⟩ := di_partner h2 (h.1 i hi).2
      obtain ⟨k, hk, e⟩ := hall _ p1 p3
      exact ⟨k, fun _ => ⟨hk, e⟩⟩
    · exact ⟨0, fun z => absurd z hi⟩
  refine ⟨fun i => Classical.choose (hex i), fun i hi => ?_, fun i j hij hj => ?_⟩
  · have hs := Classical.choose_spec (hex i) hi
    refine ⟨hs.1, fun b hb => ?_⟩
    rw [hs.2]
    exact (di_partner h2 (h.1 i hi).2).2.1 b hb
  · have hi : i < m := by omega
    have s1 := Classical.choose_spec (hex i) hi
    have s2 := Classical.choose_spec (hex j) hj
    have o := (di_pord h2 (h.1 i hi).1 (h.1 j hj).1 (h.1 i hi).2 (h.1 j hj).2).mp (h.2 i j hij hj)
    rw [← s1.2, ← s2.2] at o
    show Classical.choose (hex i) < Classical.choose (hex j)
    generalize Classical.choose (hex i) = p at s1 o ⊢
    generalize Classical.choose (hex j) = q at s2 o ⊢
    rcases Nat.lt_trichotomy p q with g | g | g
    · exact g
    · rw [g] at o; omega
    · have := h'.2 q p g s1.1; omega
/-- the two lists are one -/
theorem di_join {w w' : Nat → Nat} {A : Nat} {cap : Nat → Nat} {c : Nat → Int} (h2 : di_two w w' A cap) {bs bs' : Nat → Nat} {m m' : Nat} (h : di_inc w A cap c bs m) (ha : di_all w A cap c bs m) (h' : di_inc w' A cap c bs' m') (ha' : di_all w' A cap c bs' m') : m = m' ∧ ∀ k, k < m → ∀ b, b < A → rx_e w' A (bs' k) b = rx_e w A (bs k) b := by
  obtain ⟨f, f1, f2⟩ := di_map h2 h h' ha'
  obtain ⟨g, g1, g2⟩ := di_map (di_two_s h2) h' h ha
  have e1 := ac_incN f (fun i hi => (f1 i hi).1) f2
  have e2 := ac_incN g (fun i hi => (g1 i hi).1) g2
  have e : m = m' := by omega
  subst e
  refine ⟨rfl, fun k hk b hb => ?_⟩
  have i1 := ac_inc f (fun i hi => (f1 i hi).1) f2 k hk
  have hfk := (f1 k hk).1
  have i2 := ac_inc g (fun i hi => (g1 i hi).1) g2 (f k) hfk
  have hgf : bs (g (f k)) = bs k := by
    apply rx_ext w (h.1 _ (g1 (f k) hfk).1).1 (h.1 k hk).1
    intro b hb
    rw [(g1 (f k) hfk).2 b hb, (f1 k hk).2 b hb]
  have hgk : g (f k) = k := by
    rcases Nat.lt_trichotomy (g (f k)) k with q | q | q
    · have := h.2 _ _ q hk; omega
    · exact q
    · have := h.2 _ _ q (g1 (f k) hfk).1; omega
  have : f k = k := by omega
  have r := (f1 k hk).2 b hb
  rw [this] at r
  exact r
theorem di_few {w w' : Nat → Nat} {A : Nat} {cap : Nat → Nat} {c : Nat → Int} (h2 : di_two w w' A cap) {bs : Nat → Nat} {m M : Nat} (h : di_inc w A cap c bs m) (ha : di_all w A cap c bs m) (hm : m ≤ M) : ¬ di_more w' A cap c M := by
  intro ⟨f, f1, f2⟩
  have hex : ∀ i, ∃ k, i < M + 1 → k < m ∧ ∀ b, b < A → rx_e w A (bs k) b = rx_e w' A (f i) b := by
    intro i
    by_cases hi : i < M + 1
    · obtain ⟨p1, p2, p3⟩ := di_partner (di_two_s h2) (f1 i hi).2
      obtain ⟨k, hk, e⟩ := ha _ p1 p3
      exact ⟨k, fun _ => ⟨hk, fun b hb => by rw [e]; exact p2 b hb⟩⟩
    · exact ⟨0, fun z => absurd z hi⟩
  have := ac_ph1 (M + 1) m (fun i => Classical.choose (hex i)) (fun i hi => (Classical.choose_spec (hex i) hi).1) (fun i j hij hj e => by
    have s1 := (Classical.choose_spec (hex i) (by omega)).2
    have s2 := (Classical.choose_spec (hex j) hj).2
    have e' : Classical.choose (hex i) = Classical.choose (hex j) := e
    rw [e'] at s1
    exact f2 i j hij hj (rx_ext w' (f1 i (by omega)).1 (f1 j hj).1 (fun b hb => by rw [← s1 b hb, ← s2 b hb])))
  omega
/-! the reference's scan: numbers in order -/
theorem di_scan_min {w : Nat → Nat} {A : Nat} {cap : Nat → Nat} {c : Nat → Int} (hc : ∀ b, b < A → cap b < 2 ^ w b) {bs : Nat → Nat} {m t : Nat} (ht : t < 2 ^ rx_f w A 0) (hall : ∀ x, x < t → di_min A cap c (rx_e w A x) → ∃ k, k < m ∧ bs k = x) (hs : di_sol A cap c (rx_e w A t)) (hn : ∀ k, k < m → ¬ ∀ b, b < A → rx_e w A (bs k) b ≤ rx_e w A t b) : di_min A cap c (rx_e w A t) := by
  obtain ⟨u, hu, hle⟩ := di_below _ _ (Nat.lt_succ_self _) hs
  have hv : ∀ b, 0 ≤ b → b < A → u b < 2 ^ w b := fun b _ hb => Nat.lt_of_le_of_lt (hu.1.2.1 b hb) (hc b hb)
  have he := fun b hb => rx_en w u A 0 (Nat.zero_add A) hv b (Nat.zero_le b) hb
  have hle2 := rx_mono w u (rx_e w A t) hle A 0 (Nat.zero_add A)
  rw [rx_id w A 0 (Nat.zero_add A) t ht] at hle2
  by_cases e : rx_c w u A 0 = t
  · rw [← e]
    exact di_min_congr (fun b hb => (he b hb).symm) hu
  · obtain ⟨k, hk, ek⟩ := hall (rx_c w u A 0) (by omega) (di_min_congr (fun b hb => (he b hb).symm) hu)
    exact absurd (fun b hb => by rw [ek, he b hb]; exact hle b hb) (hn k hk)
theorem di_scan_not {w : Nat → Nat} {A : Nat} {cap : Nat → Nat} {c : Nat → Int} {bs : Nat → Nat} {m t k : Nat} (ht : t < 2 ^ rx_f w A 0) (h : di_inc w A cap c bs m) (hk : k < m) (hlt : bs k < t) (hle : ∀ b, b < A → rx_e w A (bs k) b ≤ rx_e w A t b) : ¬ di_min A cap c (rx_e w A t) := by
  intro hm
  have := hm.2 _ (h.1 k hk).2.1 hle
  have e := rx_ext w (h.1 k hk).1 ht (fun b hb => Nat.le_antisymm (hle b hb) (this b hb))
  omega
end
section
/-! the frontier: level by level -/
def bf_lv (w : Nat → Nat) (A x : Nat) : Nat := di_lv (rx_e w A x) A
def bf_Q (w : Nat → Nat) (A : Nat) (q : Nat → Nat) (e : Nat) : Prop :=
  0 < e ∧ q 0 = 0 ∧ (∀ i, i < e → q i < 2 ^ rx_f w A 0) ∧ ∀ i j, i < j → j < e → q i ≠ q j ∧ bf_lv w A (q i) ≤ bf_lv w A (q j)
def bf_L (w : Nat → Nat) (A : Nat) (q : Nat → Nat) (e h : Nat) : Prop := ∀ j, j < e → bf_lv w A (q j) ≤ bf_lv w A (q h) + 1
def bf_suc (w : Nat → Nat) (A : Nat) (cap : Nat → Nat) (c : Nat → Int) (x a : Nat) : Prop :=
  rx_e w A x a < cap a ∧ (di_sum c (rx_e w A x) A = 0 ∨ c a * di_sum c (rx_e w A x) A < 0)
def bf_le (w : Nat → Nat) (A x y : Nat) : Prop := ∀ b, b < A → rx_e w A x b ≤ rx_e w A y b
def bf_D (w : Nat → Nat) (A : Nat) (cap : Nat → Nat) (c : Nat → Int) (q : Nat → Nat) (e : Nat) (bs : Nat → Nat) (m x : Nat) : Prop :=
  (∃ k, k < m ∧ bf_le w A (bs k) x) ∨ (¬ di_sol A cap c (rx_e w A x) ∧ ∀ a, a < A → bf_suc w A cap c x a → ∃ j, j < e ∧ q j = x + 2 ^ rx_s w A a)
section BF
variable {w : Nat → Nat} {A : Nat} {cap : Nat → Nat} {c : Nat → Int} {q : Nat → Nat} {e h : Nat} {bs : Nat → Nat} {m : Nat}
theorem bf_e0 (b : Nat) : rx_e w A 0 b = 0 := by
  show 0 / _ % _ = 0
  rw [Nat.zero_div, Nat.zero_mod]
theorem bf_room (hQ : bf_Q w A q e) : e ≤ 2 ^ rx_f w A 0 := ac_ph1 e _ q hQ.2.2.1 (fun i j hij hj => (hQ.2.2.2 i j hij hj).1)
theorem bf_push (hQ : bf_Q w A q e) (hL : bf_L w A q e h) (hh : h < e) {x : Nat} (hx : x < 2 ^ rx_f w A 0) (hn : ∀ i, i < e → q i ≠ x) (hl : bf_lv w A x = bf_lv w A (q h) + 1) {q' : Nat → Nat} (e1 : ∀ i, i < e → q' i = q i) (e2 : q' e = x) : bf_Q w A q' (e + 1) ∧ bf_L w A q' (e + 1) h := by
  refine ⟨⟨by omega, by rw [e1 0 hQ.1]; exact hQ.2.1, fun i hi => ?_, fun i j hij hj => ?_⟩, fun j hj => ?_⟩
  · by_cases g : i = e
    · rw [g, e2]; exact hx
    · rw [e1 i (by omega)]; exact hQ.2.2.1 i (by omega)
  · by_cases g : j = e
    · rw [g, e2, e1 i (by omega), hl]
      exact ⟨hn i (by omega), hL i (by omega)⟩
    · rw [e1 i (by omega), e1 j (by omega)]
      exact hQ.2.2.2 i j hij (by omega)
  · rw [e1 h hh]
    by_cases g : j = e
    · rw [g, e2, hl]; exact Nat.le_refl _
    · rw [e1 j (by omega)]; exact hL j (by omega)
theorem bf_L_next (hQ : bf_Q w A q e) (hL : bf_L w A q e h) (h1 : h + 1 < e) : bf_L w A q e (h + 1) := fun j hj => by
  have := (hQ.2.2.2 h (h + 1) (by omega) h1).2
  have := hL j hj
  omega
theorem bf_D_grow {x : Nat} (hD : bf_D w A cap c q e bs m x) {q' : Nat → Nat} {e' : Nat} (he : e ≤ e') (e1 : ∀ i, i < e → q' i = q i) : bf_D w A cap c q' e' bs m x := by
  rcases hD with hD | ⟨h1, h2⟩
  · exact Or.inl hD
  · refine Or.inr ⟨h1, fun a ha hs => ?_⟩
    obtain ⟨j, hj, ej⟩ := h2 a ha hs
    exact ⟨j, by omega, by rw [e1 j hj]; exact ej⟩
theorem bf_D_basis {x : Nat} (hD : bf_D w A cap c q e bs m x) {bs' : Nat → Nat} {m' : Nat} (hb : ∀ k, k < m → ∃ k', k' < m' ∧ bs' k' = bs k) : bf_D w A cap c q e bs' m' x := by
  rcases hD with ⟨k, hk, hl⟩ | hD
  · obtain ⟨k', hk', e⟩ := hb k hk
    exact Or.inl ⟨k', hk', by rw [e]; exact hl⟩
  · exact Or.inr hD
theorem bf_suc_step (hcap : ∀ b, b < A → cap b + 1 = 2 ^ w b) {x a : Nat} (hx : x < 2 ^ rx_f w A 0) (ha : a < A) (hs : rx_e w A x a < cap a) : x + 2 ^ rx_s w A a < 2 ^ rx_f w A 0 ∧ rx_e w A (x + 2 ^ rx_s w A a) a = rx_e w A x a + 1 ∧ (∀ b, b < A → b ≠ a → rx_e w A (x + 2 ^ rx_s w A a) b = rx_e w A x b) ∧ bf_lv w A (x + 2 ^ rx_s w A a) = bf_lv w A x + 1 ∧ di_sum c (rx_e w A (x + 2 ^ rx_s w A a)) A = di_sum c (rx_e w A x) A + c a := by
  obtain ⟨h1, h2, h3⟩ := rx_step w hx ha (by have := hcap a ha; omega)
  exact ⟨h1, h2, h3, di_lv_inc h2 A ha h3, di_sum_inc h2 A ha h3⟩
/-- a minimal solution of a level that is through has been found -/
theorem bf_chain (hcap : ∀ b, b < A → cap b + 1 = 2 ^ w b) (hQ : bf_Q w A q e) (hD : ∀ i, i < h → bf_D w A cap c q e bs m (q i)) (hinc : di_inc w A cap c bs m) {x : Nat} (hx : x < 2 ^ rx_f w A 0) (hm : di_min A cap c (rx_e w A x)) (hh : h = e ∨ (h < e ∧ bf_lv w A x < bf_lv w A (q h))) : ∃ k, k < m ∧ bs k = x := by
  have inbs : ∀ k, k < m → bf_le w A (bs k) x → bs k = x := by
    intro k hk hle
    have h1 := hm.2 _ (hinc.1 k hk).2.1 hle
    exact rx_ext w (hinc.1 k hk).1 hx (fun b hb => Nat.le_antisymm (hle b hb) (h1 b hb))
  have key : ∀ j, j ≤ bf_lv w A x → (∃ k, k < m ∧ bs k = x) ∨ ∃ i, i < h ∧ bf_le w A (q i) x ∧ bf_lv w A (q i) = j := by
    intro j
    induction j with
    | zero =>
      intro _
      right
      have l0 : bf_lv w A (q 0) = 0 := di_lv_0 A (fun b _ => by rw [hQ.2.1]; exact bf_e0 b)
      refine ⟨0, ?_, fun b _ => by rw [hQ.2.1, bf_e0]; exact Nat.zero_le _, l0⟩
      rcases hh with g | ⟨g, g2⟩
      · have := hQ.1; omega
      · rcases Nat.eq_zero_or_pos h with z | z
        · rw [z, l0] at g2; omega
        · exact z
    | succ j ih =>
      intro hj
      rcases ih (by omega) with g | ⟨i, hi, hle, hlv⟩
      · exact Or.inl g
      · have hie : i < e := by rcases hh with g | g <;> omega
        rcases hD i hi with ⟨k, hk, hbl⟩ | ⟨hns, hsuc⟩
        · exact Or.inl ⟨k, hk, inbs k hk (fun b hb => Nat.le_trans (hbl b hb) (hle b hb))⟩
        · right
          have hqi := hQ.2.2.1 i hie
          have way : ∃ a, a < A ∧ rx_e w A (q i) a < rx_e w A x a ∧ (di_sum c (rx_e w A (q i)) A = 0 ∨ c a * di_sum c (rx_e w A (q i)) A < 0) := by
            by_cases hz : di_sum c (rx_e w A (q i)) A = 0
            · have hlt : ∃ a, a < A ∧ rx_e w A (q i) a < rx_e w A x a := by
                apply Classical.byContradiction
                intro hn
                have : bf_lv w A (q i) = bf_lv w A x := di_lv_congr A (fun b hb => by
                  have h1 := hle b hb
                  apply Classical.byContradiction
                  intro hne
                  exact hn ⟨b, hb, by omega⟩)
                omega
              obtain ⟨a, ha, hlt⟩ := hlt
              exact ⟨a, ha, hlt, Or.inl hz⟩
            · obtain ⟨a, ha, h1, h2⟩ := di_way hm.1 hle hz
              exact ⟨a, ha, h1, Or.inr h2⟩
          obtain ⟨a, ha, hlt, hdir⟩ := way
          have hcp : rx_e w A (q i) a < cap a := Nat.lt_of_lt_of_le hlt (hm.1.2.1 a ha)
          obtain ⟨j', hj', ej'⟩ := hsuc a ha ⟨hcp, hdir⟩
          obtain ⟨s1, s2, s3, s4, _⟩ := bf_suc_step (c := c) hcap hqi ha hcp
          have hlv' : bf_lv w A (q j') = j + 1 := by rw [ej', s4, hlv]
          refine ⟨j', ?_, fun b hb => ?_, hlv'⟩
          · rcases hh with g | ⟨g, g2⟩
            · omega
            · apply Classical.byContradiction
              intro hn
              rcases Nat.lt_or_ge h j' with r | r
              · have := (hQ.2.2.2 h j' r hj').2
                omega
              · have : h = j' := by omega
                rw [this] at g2
                omega
          · rw [ej']
            by_cases eb : b = a
            · rw [eb, s2]; exact hlt
            · rw [s3 b hb eb]; exact hle b hb
  rcases key _ (Nat.le_refl _) with g | ⟨i, hi, hle, hlv⟩
  · exact g
  · have hie : i < e := by rcases hh with g | g <;> omega
    have heq : ∀ b, b < A → rx_e w A (q i) b = rx_e w A x b := by
      intro b hb
      have h1 := hle b hb
      apply Classical.byContradiction
      intro hne
      have := di_lv_lt A hle ⟨b, hb, by omega⟩
      have hlv' : di_lv (rx_e w A (q i)) A = di_lv (rx_e w A x) A := hlv
      omega
    rcases hD i hi with ⟨k, hk, hbl⟩ | ⟨hns, _⟩
    · exact ⟨k, hk, inbs k hk (fun b hb => by rw [← heq b hb]; exact hbl b hb)⟩
    · exact absurd (di_sol_congr (fun b hb => (heq b hb).symm) hm.1) hns
/-- a solution that is met and lies above none of the basis is minimal -/
theorem bf_min (hcap : ∀ b, b < A → cap b + 1 = 2 ^ w b) (hQ : bf_Q w A q e) (hD : ∀ i, i < h → bf_D w A cap c q e bs m (q i)) (hinc : di_inc w A cap c bs m) (hh : h < e) (hs : di_sol A cap c (rx_e w A (q h))) (hn : ∀ k, k < m → ¬ bf_le w A (bs k) (q h)) : di_min A cap c (rx_e w A (q h)) := by
  obtain ⟨u, hu, hle⟩ := di_below _ _ (Nat.lt_succ_self _) hs
  have hv : ∀ b, 0 ≤ b → b < A → u b < 2 ^ w b := fun b _ hb => by
    have := hu.1.2.1 b hb
    have := hcap b hb
    omega
  have he := fun b hb => rx_en w u A 0 (Nat.zero_add A) hv b (Nat.zero_le b) hb
  have hum := di_min_congr (fun b hb => (he b hb).symm) hu
  by_cases hlt : ∃ b, b < A ∧ u b < rx_e w A (q h) b
  · have hl : bf_lv w A (rx_c w u A 0) < bf_lv w A (q h) := by
      show di_lv (rx_e w A (rx_c w u A 0)) A < di_lv (rx_e w A (q h)) A
      rw [di_lv_congr A he]
      exact di_lv_lt A hle hlt
    obtain ⟨k, hk, ek⟩ := bf_chain hcap hQ hD hinc (rx_lt w u A 0 (Nat.zero_add A) hv) hum (Or.inr ⟨hh, hl⟩)
    exact absurd (fun b hb => by rw [ek, he b hb]; exact hle b hb) (hn k hk)
  · refine di_min_congr (fun b hb => ?_) hu
    have := hle b hb
    apply Classical.byContradiction
    intro hne
    exact hlt ⟨b, hb, by omega⟩
/-- inserting into the ordered basis -/
theorem bf_ins (hinc : di_inc w A cap c bs m) {x p : Nat} (hx : x < 2 ^ rx_f w A 0) (hm : di_min A cap c (rx_e w A x)) (hp : p ≤ m) (hlo : ∀ k, k < p → bs k < x) (hhi : ∀ k, p ≤ k → k < m → x < bs k) {bs' : Nat → Nat} (e1 : ∀ k, k < p → bs' k = bs k) (e2 : bs' p = x) (e3 : ∀ k, p < k → k < m + 1 → bs' k = bs (k - 1)) : di_inc w A cap c bs' (m + 1) ∧ (∀ k, k < m → ∃ k', k' < m + 1 ∧ bs' k' = bs k) := by
  refine ⟨⟨fun k hk => ?_, fun i j hij hj => ?_⟩, fun k hk => ?_⟩
  · rcases Nat.lt_trichotomy k p with g | g | g
    · rw [e1 k g]; exact hinc.1 k (by omega)
    · rw [g, e2]; exact ⟨hx, hm⟩
    · rw [e3 k g hk]; exact hinc.1 (k - 1) (by omega)
  · rcases Nat.lt_trichotomy j p with g | g | g
    · rw [e1 i (by omega), e1 j g]; exact hinc.2 i j hij (by omega)
    · rw [g, e2, e1 i (by omega)]; exact hlo i (by omega)
    · rw [e3 j g hj]
      rcases Nat.lt_trichotomy i p with r | r | r
      · rw [e1 i r]
        exact hinc.2 i (j - 1) (by omega) (by omega)
      · rw [r, e2]
        exact hhi (j - 1) (by omega) (by omega)
      · rw [e3 i r (by omega)]
        exact hinc.2 (i - 1) (j - 1) (by omega) (by omega)
  · by_cases g : k < p
    · exact ⟨k, by omega, e1 k g⟩
    · exact ⟨k + 1, by omega, by rw [e3 (k + 1) (by omega) (by omega)]; rfl⟩
end BF
end
section
/-! masks: sets of basis vectors -/
def mk_slv (A N : Nat) (B : Nat → Nat → Nat) (cd : Nat → Nat) (tm : Nat → ch_C) (m : Nat) (s : Nat → ch_C) : Prop :=
  ∀ k, k < N → m.testBit k = true → ∀ a b, a < A → b < A → cd a < 20 → cd b < 20 → B k a = 1 → B k b = 1 → ch_v s (tm a) = ch_v s (tm b)
def mk_sum (B : Nat → Nat → Nat) (m a : Nat) : Nat → Nat
  | 0 => 0
  | k + 1 => mk_sum B m a k + (if m.testBit k = true then B k a else 0)
def mk_ex (A N : Nat) (B : Nat → Nat → Nat) (cd : Nat → Nat) (c : Nat → Int) (m : Nat) : Prop :=
  ∀ a, a < A → c a ≠ 0 → 1 ≤ mk_sum B m a N ∧ (cd a < 20 → mk_sum B m a N = 1)
def mk_adm (A N : Nat) (B : Nat → Nat → Nat) (cd : Nat → Nat) (tm : Nat → ch_C) (c : Nat → Int) (m : Nat) : Prop :=
  mk_ex A N B cd c m ∧ ∃ s, mk_slv A N B cd tm m s
/-- what is known of the basis -/
def mk_B (A N : Nat) (B : Nat → Nat → Nat) (cd : Nat → Nat) (c : Nat → Int) : Prop :=
  ∀ k, k < N → ∀ a, a < A → B k a ≤ 3 ∧ (0 < B k a → c a ≠ 0) ∧ (cd a < 20 → B k a ≤ 1)
def mk_hb (j m : Nat) : Nat := m / 2 ^ j * 2 ^ j
theorem mk_hb_bit (j m i : Nat) : (mk_hb j m).testBit i = (decide (j ≤ i) && m.testBit i) := by
  show (m / 2 ^ j * 2 ^ j).testBit i = _
  rw [Nat.testBit_mul_two_pow]
  by_cases h : j ≤ i
  · rw [decide_eq_true h, Bool.true_and, Bool.true_and, Nat.testBit_div_two_pow, show i - j + j = i from by omega]
  · rw [decide_eq_false h, Bool.false_and, Bool.false_and]
section MK
variable {A N : Nat} {B : Nat → Nat → Nat} {cd : Nat → Nat} {tm : Nat → ch_C} {c : Nat → Int}
theorem mk_slv_mono {m m' : Nat} {s : Nat → ch_C} (h : ∀ k, k < N → m.testBit k = true → m'.testBit k = true) (hs : mk_slv A N B cd tm m' s) : mk_slv A N B cd tm m s :=
  fun k hk hb => hs k hk (h k hk hb)
theorem mk_sum_congr {m m' a : Nat} : ∀ n, (∀ k, k < n → m.testBit k = m'.testBit k) → mk_sum B m a n = mk_sum B m' a n := by
  intro n
  induction n with
  | zero => intro _; rfl
  | succ n ih =>
    intro h
    show mk_sum B m a n + _ = mk_sum B m' a n + _
    rw [ih (fun k hk => h k (by omega)), h n (by omega)]
theorem mk_sum_ge {m a : Nat} : ∀ n k, k < n → m.testBit k = true → B k a ≤ mk_sum B m a n := by
  intro n
  induction n with
  | zero => intro k hk; omega
  | succ n ih =>
    intro k hk hb
    show B k a ≤ mk_sum B m a n + (if m.testBit n = true then B n a else 0)
    by_cases e : k = n
    · subst e; rw [if_pos hb]; omega
    · have := ih k (by omega) hb; omega
theorem mk_sum_two {m a : Nat} : ∀ n k k', k < k' → k' < n → m.testBit k = true → m.testBit k' = true → B k a + B k' a ≤ mk_sum B m a n := by
  intro n
  induction n with
  | zero => intro k k' _ hk; omega
  | succ n ih =>
    intro k k' hkk hk hb hb'
    show B k a + B k' a ≤ mk_sum B m a n + (if m.testBit n = true then B n a else 0)
    by_cases e : k' = n
    · subst e
      rw [if_pos hb']
      have := mk_sum_ge (B := B) (a := a) k' k hkk hb
      omega
    · have := ih k k' hkk (by omega) hb hb'; omega
theorem mk_sum_pos {m a : Nat} : ∀ n, 1 ≤ mk_sum B m a n → ∃ k, k < n ∧ m.testBit k = true ∧ 0 < B k a := by
  intro n
  induction n with
  | zero => intro h; exact absurd h (by show ¬ 1 ≤ 0; omega)
  | succ n ih =>
    intro h
    have h' : 1 ≤ mk_sum B m a n + (if m.testBit n = true then B n a else 0) := h
    by_cases hb : m.testBit n = true
    · rw [if_pos hb] at h'
      by_cases hz : 0 < B n a
      · exact ⟨n, by omega, hb, hz⟩
      · obtain ⟨k, hk, r⟩ := ih (by omega)
        exact ⟨k, by omega, r⟩
    · rw [if_neg hb] at h'
      obtain ⟨k, hk, r⟩ := ih (by omega)
      exact ⟨k, by omega, r⟩
theorem mk_sum_one {m a : Nat} : ∀ n, (∀ k, k < n → m.testBit k = true → B k a ≤ 1) → (∀ k k', k < k' → k' < n → m.testBit k = true → m.testBit k' = true → ¬ (0 < B k a ∧ 0 < B k' a)) → mk_sum B m a n ≤ 1 := by
  intro n
  induction n with
  | zero => intro _ _; exact Nat.zero_le _
  | succ n ih =>
    intro h1 h2
    have i := ih (fun k hk => h1 k (by omega)) (fun k k' hkk hk => h2 k k' hkk (by omega))
    show mk_sum B m a n + (if m.testBit n = true then B n a else 0) ≤ 1
    by_cases hb : m.testBit n = true
    · rw [if_pos hb]
      have := h1 n (by omega) hb
      by_cases hz : 0 < B n a
      · have : mk_sum B m a n = 0 := by
          apply Classical.byContradiction
          intro hne
          obtain ⟨k, hk, r1, r2⟩ := mk_sum_pos (B := B) (m := m) (a := a) n (by omega)
          exact h2 k n hk (by omega) r1 hb ⟨r2, hz⟩
        omega
      · omega
    · rw [if_neg hb]; exact i
/-! bit sets of atoms -/
def mk_cov (A : Nat) (B : Nat → Nat → Nat) (k x : Nat) : Prop := ∀ a, x.testBit a = true ↔ a < A ∧ 0 < B k a
def mk_live (A : Nat) (c : Nat → Int) (x : Nat) : Prop := ∀ a, x.testBit a = true ↔ a < A ∧ c a ≠ 0
def mk_elt (A : Nat) (c : Nat → Int) (cd : Nat → Nat) (x : Nat) : Prop := ∀ a, x.testBit a = true ↔ a < A ∧ c a ≠ 0 ∧ cd a < 20
/-- the atoms that the vectors of m from l on touch -/
def mk_un (A N : Nat) (B : Nat → Nat → Nat) (m l x : Nat) : Prop := ∀ a, x.testBit a = true ↔ ∃ k, l ≤ k ∧ k < N ∧ m.testBit k = true ∧ a < A ∧ 0 < B k a
/-- no element atom is touched twice by the vectors of m from l on -/
def mk_once (A N : Nat) (B : Nat → Nat → Nat) (cd : Nat → Nat) (m l : Nat) : Prop := ∀ a, a < A → cd a < 20 → ∀ k k', l ≤ k → k < k' → k' < N → m.testBit k = true → m.testBit k' = true → ¬ (0 < B k a ∧ 0 < B k' a)
theorem mk_un_top : mk_un A N B 0 N 0 := by
  intro a
  rw [Nat.zero_testBit]
  constructor
  · intro h; exact absurd h Bool.false_ne_true
  · intro ⟨k, h1, h2, _⟩; omega
theorem mk_once_top {m : Nat} : mk_once A N B cd m N := fun a _ _ k k' h1 h2 h3 => by omega
theorem mk_un_congr {m m' l x : Nat} (h : ∀ k, l ≤ k → k < N → m.testBit k = m'.testBit k) (hu : mk_un A N B m l x) : mk_un A N B m' l x := by
  intro a
  rw [hu a]
  constructor
  · intro ⟨k, h1, h2, h3, h4⟩; exact ⟨k, h1, h2, by rw [← h k h1 h2]; exact h3, h4⟩
  · intro ⟨k, h1, h2, h3, h4⟩; exact ⟨k, h1, h2, by rw [h k h1 h2]; exact h3, h4⟩
theorem mk_once_congr {m m' l : Nat} (h : ∀ k, l ≤ k → k < N → m.testBit k = m'.testBit k) (hu : mk_once A N B cd m l) : mk_once A N B cd m' l :=
  fun a ha hc k k' h1 h2 h3 h4 h5 => hu a ha hc k k' h1 h2 h3 (by rw [h k h1 (by omega)]; exact h4) (by rw [h k' (by omega) h3]; exact h5)
/-- a vector not taken -/
theorem mk_un_skip {m l x : Nat} (hb : m.testBit l = false) (hu : mk_un A N B m (l + 1) x) : mk_un A N B m l x := by
  intro a
  rw [hu a]
  constructor
  · intro ⟨k, h1, r⟩; exact ⟨k, by omega, r⟩
  · intro ⟨k, h1, h2, h3, r⟩
    by_cases e : k = l
    · subst e; rw [hb] at h3; exact absurd h3 Bool.false_ne_true
    · exact ⟨k, by omega, h2, h3, r⟩
theorem mk_once_skip {m l : Nat} (hb : m.testBit l = false) (hu : mk_once A N B cd m (l + 1)) : mk_once A N B cd m l := by
  intro a ha hc k k' h1 h2 h3 h4 h5
  by_cases e : k = l
  · subst e; rw [hb] at h4; exact absurd h4 Bool.false_ne_true
  · exact hu a ha hc k k' (by omega) h2 h3 h4 h5
/-- a vector taken -/
theorem mk_un_take {m l x y : Nat} (hl : l < N) (hb : m.testBit l = true) (hu : mk_un A N B m (l + 1) x) (hc : mk_cov A B l y) : mk_un A N B m l (x ||| y) := by
  intro a
  rw [Nat.testBit_or, Bool.or_eq_true, hu a, hc a]
  constructor
  · intro h
    rcases h with ⟨k, h1, r⟩ | ⟨h1, h2⟩
    · exact ⟨k, by omega, r⟩
    · exact ⟨l, Nat.le_refl _, hl, hb, h1, h2⟩
  · intro ⟨k, h1, h2, h3, h4, h5⟩
    by_cases e : k = l
    · subst e; exact Or.inr ⟨h4, h5⟩
    · exact Or.inl ⟨k, by omega, h2, h3, h4, h5⟩
theorem mk_once_take (hB : mk_B A N B cd c) {m l x y z : Nat} (hl : l < N) (hu : mk_un A N B m (l + 1) x) (hc : mk_cov A B l y) (hz : mk_elt A c cd z) (h0 : (y &&& z) &&& x = 0) (ho : mk_once A N B cd m (l + 1)) : mk_once A N B cd m l := by
  intro a ha hcd k k' h1 h2 h3 h4 h5
  by_cases e : k = l
  · subst e
    intro ⟨h6, h7⟩
    have t1 : ((y &&& z) &&& x).testBit a = true := by
      rw [Nat.testBit_and, Nat.testBit_and, (hc a).mpr ⟨ha, h6⟩, (hz a).mpr ⟨ha, (hB k hl a ha).2.1 h6, hcd⟩, (hu a).mpr ⟨k', by omega, h3, h5, ha, h7⟩]
      rfl
    rw [h0, Nat.zero_testBit] at t1
    exact absurd t1 Bool.false_ne_true
  · exact ho a ha hcd k k' (by omega) h2 h3 h4 h5
/-- a conflict with what is covered: no mask above is exact -/
theorem mk_no_take {m m' l x y z : Nat} (hl : l < N) (hm : ∀ k, l ≤ k → k < N → m'.testBit k = m.testBit k) (hb : m.testBit l = true) (hu : mk_un A N B m (l + 1) x) (hc : mk_cov A B l y) (hz : mk_elt A c cd z) (h0 : (y &&& z) &&& x ≠ 0) : ¬ mk_ex A N B cd c m' := by
  intro hex
  obtain ⟨a, ha⟩ := Nat.exists_testBit_of_ne_zero h0
  rw [Nat.testBit_and, Nat.testBit_and, Bool.and_eq_true, Bool.and_eq_true] at ha
  obtain ⟨⟨h1, h2⟩, h3⟩ := ha
  obtain ⟨p1, p2⟩ := (hc a).mp h1
  obtain ⟨q1, q2, q3⟩ := (hz a).mp h2
  obtain ⟨k, r1, r2, r3, r4, r5⟩ := (hu a).mp h3
  have := (hex a p1 q2).2 q3
  have h4 := mk_sum_two (B := B) (m := m') (a := a) N l k (by omega) r2 (by rw [hm l (Nat.le_refl _) hl]; exact hb) (by rw [hm k (by omega) r2]; exact r3)
  omega
/-- what may still be reached -/
def mk_rc (cv : Nat → Nat) (used : Nat) : Nat → Nat → Nat
  | 0, x => x
  | l + 1, x => if cv l &&& used = 0 then mk_rc cv used l x ||| cv l else mk_rc cv used l x
theorem mk_rc_bit {cv : Nat → Nat} {used x a : Nat} : ∀ l, (mk_rc cv used l x).testBit a = true ↔ x.testBit a = true ∨ ∃ k, k < l ∧ cv k &&& used = 0 ∧ (cv k).testBit a = true := by
  intro l
  induction l with
  | zero => exact ⟨Or.inl, fun h => h.elim (fun z => z) (fun ⟨k, hk, _⟩ => absurd hk (Nat.not_lt_zero k))⟩
  | succ l ih =>
    show (if cv l &&& used = 0 then mk_rc cv used l x ||| cv l else mk_rc cv used l x).testBit a = true ↔ _
    by_cases h : cv l &&& used = 0
    · rw [if_pos h, Nat.testBit_or, Bool.or_eq_true, ih]
      constructor
      · intro g
        rcases g with (g | ⟨k, g1, g2⟩) | g
        · exact Or.inl g
        · exact Or.inr ⟨k, by omega, g2⟩
        · exact Or.inr ⟨l, by omega, h, g⟩
      · intro g
        rcases g with g | ⟨k, g1, g2, g3⟩
        · exact Or.inl (Or.inl g)
        · by_cases e : k = l
          · subst e; exact Or.inr g3
          · exact Or.inl (Or.inr ⟨k, by omega, g2, g3⟩)
    · rw [if_neg h, ih]
      constructor
      · intro g
        rcases g with g | ⟨k, g1, g2⟩
        · exact Or.inl g
        · exact Or.inr ⟨k, by omega, g2⟩
      · intro g
        rcases g with g | ⟨k, g1, g2, g3⟩
        · exact Or.inl g
        · by_cases e : k = l
          · subst e; exact absurd g2 h
          · exact Or.inr ⟨k, by omega, g2, g3⟩
/-- an exact mask above can be completed -/
theorem mk_can (hB : mk_B A N B cd c) {cv : Nat → Nat} {m m' l x y z : Nat} (hl : l ≤ N) (hm : ∀ k, l ≤ k → k < N → m'.testBit k = m.testBit k) (hu : mk_un A N B m l x) (hc : ∀ k, k < N → mk_cov A B k (cv k)) (hy : mk_live A c y) (hz : mk_elt A c cd z) (hex : mk_ex A N B cd c m') : mk_rc cv (x &&& z) l x = y := by
  apply Nat.eq_of_testBit_eq
  intro a
  apply Bool.eq_iff_iff.mpr
  rw [mk_rc_bit, hy a]
  constructor
  · intro g
    rcases g with g | ⟨k, g1, g2, g3⟩
    · obtain ⟨k, r1, r2, r3, r4, r5⟩ := (hu a).mp g
      exact ⟨r4, (hB k r2 a r4).2.1 r5⟩
    · obtain ⟨p1, p2⟩ := (hc k (by omega) a).mp g3
      exact ⟨p1, (hB k (by omega) a p1).2.1 p2⟩
  · intro ⟨ha, hca⟩
    obtain ⟨k, hk, hb, hp⟩ := mk_sum_pos N (hex a ha hca).1
    by_cases e : l ≤ k
    · exact Or.inl ((hu a).mpr ⟨k, e, hk, by rw [← hm k e hk]; exact hb, ha, hp⟩)
    · refine Or.inr ⟨k, by omega, ?_, (hc k hk a).mpr ⟨ha, hp⟩⟩
      apply Classical.byContradiction
      intro h0
      obtain ⟨a', ha'⟩ := Nat.exists_testBit_of_ne_zero h0
      rw [Nat.testBit_and, Nat.testBit_and, Bool.and_eq_true, Bool.and_eq_true] at ha'
      obtain ⟨h1, h2, h3⟩ := ha'
      obtain ⟨p1, p2⟩ := (hc k hk a').mp h1
      obtain ⟨k', r1, r2, r3, r4, r5⟩ := (hu a').mp h2
      obtain ⟨q1, q2, q3⟩ := (hz a').mp h3
      have := (hex a' p1 q2).2 q3
      have h4 := mk_sum_two (B := B) (m := m') (a := a') N k k' (by omega) r2 hb (by rw [hm k' r1 r2]; exact r3)
      omega
/-- all covered, none twice: exact -/
theorem mk_full (hB : mk_B A N B cd c) {m x : Nat} (hu : mk_un A N B m 0 x) (hy : mk_live A c x) (ho : mk_once A N B cd m 0) : mk_ex A N B cd c m := by
  intro a ha hca
  obtain ⟨k, r1, r2, r3, r4, r5⟩ := (hu a).mp ((hy a).mpr ⟨ha, hca⟩)
  have h1 := mk_sum_ge (B := B) (m := m) (a := a) N k r2 r3
  refine ⟨by omega, fun hcd => ?_⟩
  have h2 := mk_sum_one (B := B) (m := m) (a := a) N (fun k hk _ => (hB k hk a ha).2.2 hcd) (fun k k' hkk hk h4 h5 => ho a ha hcd k k' (Nat.zero_le _) hkk hk h4 h5)
  omega
end MK
end
section
/-! ints as sets of bits -/
theorem ib_or (a b : Nat) : nI a ||| nI b = nI (a ||| b) := by
  apply Int32.toBitVec_inj.1
  show BitVec.ofNat 32 a ||| BitVec.ofNat 32 b = BitVec.ofNat 32 (a ||| b)
  apply BitVec.eq_of_getLsbD_eq
  intro i hi
  simp [hi]
theorem ib_shl {l : Nat} (h : l < 31) : (1 : Int32) <<< (nI l &&& 31) = nI (2 ^ l) := by
  have h2 : 2 ^ l < 2 ^ 31 := Nat.pow_lt_pow_right (by omega) h
  have := pk_shlN (n := 1) (nI l &&& 31) l (s_l l (by omega)) (by omega)
  rw [Nat.one_mul] at this
  exact this
theorem ib_shr {m l : Nat} (hm : m < 2 ^ 31) (h : l < 32) : nI m >>> (nI l &&& 31) = nI (m / 2 ^ l) := pk_shrN hm (nI l &&& 31) l (s_l l h)
theorem ib_bit {m l : Nat} (hm : m < 2 ^ 31) (h : l < 32) : (nI m >>> (nI l &&& 31)) &&& 1 = if m.testBit l = true then 1 else 0 := by
  have h2 : m / 2 ^ l ≤ m := Nat.div_le_self _ _
  rw [ib_shr hm h, pk_andN (by omega) 1 (by decide), Nat.testBit_eq_decide_div_mod_eq]
  have : m / 2 ^ l % 2 ^ 1 < 2 := Nat.mod_lt _ (by decide)
  rw [Nat.pow_one] at this ⊢
  by_cases e : m / 2 ^ l % 2 = 1
  · rw [if_pos (decide_eq_true e), e]; rfl
  · rw [if_neg (by rw [decide_eq_false e]; exact Bool.false_ne_true), show m / 2 ^ l % 2 = 0 from by omega]; rfl
theorem ib_bit0 {m l : Nat} (hm : m < 2 ^ 31) (h : l < 32) : (nI m >>> (nI l &&& 31)) &&& 1 = 0 ↔ m.testBit l = false := by
  rw [ib_bit hm h]
  cases m.testBit l with
  | true => exact ⟨fun q => absurd q (by decide), fun q => absurd q (by decide)⟩
  | false => exact ⟨fun _ => rfl, fun _ => rfl⟩
theorem ib_bit1 {m l : Nat} (hm : m < 2 ^ 31) (h : l < 32) : (nI m >>> (nI l &&& 31)) &&& 1 = 1 ↔ m.testBit l = true := by
  rw [ib_bit hm h]
  cases m.testBit l with
  | true => exact ⟨fun _ => rfl, fun _ => rfl⟩
  | false => exact ⟨fun q => absurd q (by decide), fun q => absurd q (by decide)⟩
theorem ib_bt {m i : Nat} (h : i < 32) : bt (nI m) i = m.testBit i := by
  unfold bt
  show (BitVec.ofNat 32 m).getLsbD i = _
  rw [BitVec.getLsbD_ofNat, decide_eq_true h, Bool.true_and]
theorem ib_neg : ∀ l, l < 14 → ∀ i, i < 32 → bt (-(nI (2 ^ l))) i = decide (l ≤ i) := by decide +kernel
theorem ib_clear {p l : Nat} (hl : l < 13) : nI p &&& (-(nI (2 ^ l) <<< ((1 : Int32) &&& 31))) = nI (mk_hb (l + 1) p) := by
  have e : nI (2 ^ l) <<< ((1 : Int32) &&& 31) = nI (2 ^ (l + 1)) := by
    have h2 : 2 ^ l < 2 ^ 31 := Nat.pow_lt_pow_right (by omega) (by omega)
    rw [Nat.pow_succ]
    exact pk_shlN (n := 2 ^ l) ((1 : Int32) &&& 31) 1 (by decide) (by omega)
  rw [e]
  apply b_ext
  intro i hi
  rw [b_and, ib_neg (l + 1) (by omega) i hi, ib_bt hi, ib_bt hi, mk_hb_bit, Bool.and_comm]
theorem ib_0 {a : Nat} (h : a < 2 ^ 31) : nI a = 0 ↔ a = 0 := by rw [← nI_0, nI_eq h (by omega)]
theorem ib_lt0 {a : Nat} (h : a < 2 ^ 31) : nI a ≤ 0 ↔ a = 0 := by rw [← nI_0, nI_leI h (by omega)]; omega
theorem ib_and_lt {a b n : Nat} (h : a < n) : a &&& b < n := Nat.lt_of_le_of_lt Nat.and_le_left h
theorem ib_or_lt {a b n : Nat} (ha : a < 2 ^ n) (hb : b < 2 ^ n) : a ||| b < 2 ^ n := Nat.or_lt_two_pow ha hb
theorem ib_ent {c s w : Nat} (hc : c < 2 ^ 31) (hs : s < 32) (hw : w ≤ 30) : (nI c >>> (nI s &&& 31)) &&& nI (2 ^ w - 1) = nI (c / 2 ^ s % 2 ^ w) := by
  have h2 : c / 2 ^ s ≤ c := Nat.div_le_self _ _
  have h3 : 2 ^ w ≤ 2 ^ 30 := Nat.pow_le_pow_right (by omega) hw
  rw [ib_shr hc hs]
  exact pk_andN (by omega) w (pk_tn (by omega))
theorem ib_and3 {m : Nat} (hm : m < 2 ^ 31) : nI m &&& 3 = nI (m % 4) := pk_andN (by omega) 2 (by decide)
theorem ib_sub {a b : Nat} (h : b ≤ a) : nI a - nI b = nI (a - b) := pk_sub h
theorem ib_s1 {a : Nat} (h : 0 < a) : nI a - 1 = nI (a - 1) := pk_sub (b := 1) h
theorem ib_m1 {a : Nat} (h : 0 < a) : nI a + (-1) = nI (a - 1) := by
  obtain ⟨n, rfl⟩ : ∃ n, a = n + 1 := ⟨a - 1, by omega⟩
  exact pk_m1 n
theorem ib_2m (a : Nat) : 2 * nI a = nI (2 * a) := pk_mul 2 a
theorem ib_bit_lt {x n : Nat} (h : ∀ a, x.testBit a = true → a < n) : x < 2 ^ n := by
  apply Nat.lt_pow_two_of_testBit
  intro i hi
  cases hb : x.testBit i with
  | false => rfl
  | true => have := h i hb; omega
end
section
/-! the component's classes: parent, shape, least and the trail, against the list of merges -/
def xu_s (s : Nat) : Int32 := if s < 40 then nI s else -1
theorem xu_s_lt {s : Nat} (h : s < 40) : xu_s s = nI s := if_pos h
theorem xu_s_40 {s : Nat} (h : ¬ s < 40) : xu_s s = -1 := if_neg h
theorem xu_s_neg {s : Nat} : xu_s s < 0 ↔ ¬ s < 40 := by
  by_cases h : s < 40
  · rw [xu_s_lt h]; exact ⟨fun q => absurd q (nI_pos (by omega)), fun q => absurd h q⟩
  · rw [xu_s_40 h]; exact ⟨fun _ => h, fun _ => by decide⟩
theorem xu_s_0le {s : Nat} : 0 ≤ xu_s s ↔ s < 40 := by
  by_cases h : s < 40
  · rw [xu_s_lt h]; exact ⟨fun _ => h, fun _ => nI_pos' (by omega)⟩
  · rw [xu_s_40 h]; exact ⟨fun q => absurd q (by decide), fun q => absurd q h⟩
def xu_tr (tn tsh tl : Nat → Int32) : List (Nat × Nat) → Prop
  | [] => True
  | (k, d) :: L => tn L.length = nI d ∧ tsh L.length = xu_s (uf_sh L k) ∧ tl L.length = nI (uf_ls L k) ∧ xu_tr tn tsh tl L
def xu_U (L : List (Nat × Nat)) (ts : Int32) (pa sh le tn tsh tl : Nat → Int32) : Prop :=
  uf_ok (fun x => x < 40) L ∧ ts = nI L.length ∧ (∀ x, x < 40 → pa x = nI (uf_pa L x)) ∧ (∀ x, x < 40 → sh x = xu_s (uf_sh L x)) ∧ (∀ x, x < 40 → le x = nI (uf_ls L x)) ∧ xu_tr tn tsh tl L
theorem xu_len {L : List (Nat × Nat)} (h : uf_ok (fun x => x < 40) L) : L.length ≤ 39 := uf_len (fun _ q => q) h (Or.inl (show 0 < 40 by omega))
theorem xu_tr_up {tn tsh tl tn' tsh' tl' : Nat → Int32} : ∀ {L : List (Nat × Nat)}, xu_tr tn tsh tl L → (∀ i, i < L.length → tn' i = tn i ∧ tsh' i = tsh i ∧ tl' i = tl i) → xu_tr tn' tsh' tl' L
  | [], _, _ => True.intro
  | (k, d) :: L, ⟨a, b, c, e⟩, h => by
    obtain ⟨h1, h2, h3⟩ := h L.length (by rw [List.length_cons]; omega)
    exact ⟨h1.trans a, h2.trans b, h3.trans c, xu_tr_up e (fun i hi => h i (by rw [List.length_cons]; omega))⟩
theorem xu_push {L : List (Nat × Nat)} {ts : Int32} {pa sh le tn tsh tl pa' sh' le' tn' tsh' tl' : Nat → Int32} (hU : xu_U L ts pa sh le tn tsh tl) {k d : Nat} (hk : k < 40) (hd : d < 40) (hkd : k ≠ d) (rk : uf_rt L k = k) (rd : uf_rt L d = d)
    (e1 : pa' = upd pa d (nI k)) (e2 : (0 ≤ sh k ∧ sh' = sh) ∨ (¬ 0 ≤ sh k ∧ sh' = upd sh k (sh d))) (e3 : (le k ≤ le d ∧ le' = le) ∨ (¬ le k ≤ le d ∧ le' = upd le k (le d)))
    (e4 : tn' = upd tn L.length (nI d)) (e5 : tsh' = upd tsh L.length (sh k)) (e6 : tl' = upd tl L.length (le k)) : xu_U ((k, d) :: L) (ts + 1) pa' sh' le' tn' tsh' tl' := by
  obtain ⟨h1, h2, h3, h4, h5, h6⟩ := hU
  subst e1 e4 e5 e6 h2
  refine ⟨⟨hk, hd, hkd, rk, rd, h1⟩, by rw [nI_1, List.length_cons], fun x hx => ?_, fun x hx => ?_, fun x hx => ?_, ?_, ?_, ?_, ?_⟩
  · by_cases e : x = d
    · subst e
      rw [pk_us]
      exact congrArg nI (if_pos rfl).symm
    · rw [pk_un e, h3 x hx]
      exact congrArg nI (if_neg e).symm
  · have hk' := h4 k hk
    rcases e2 with ⟨g, e⟩ | ⟨g, e⟩
    · subst e
      rw [hk', xu_s_0le] at g
      by_cases ex : x = k
      · subst ex
        rw [uf_sh_k, if_pos g]; exact hk'
      · rw [uf_sh_n ex]; exact h4 x hx
    · subst e
      rw [hk', xu_s_0le] at g
      by_cases ex : x = k
      · subst ex
        rw [pk_us, uf_sh_k, if_neg g]; exact h4 d hd
      · rw [pk_un ex, uf_sh_n ex]; exact h4 x hx
  · have hk' := h5 k hk
    have hd' := h5 d hd
    have b1 := uf_ls_le4 L k
    have b2 := uf_ls_le4 L d
    rcases e3 with ⟨g, e⟩ | ⟨g, e⟩
    · subst e
      rw [hk', hd', nI_leI (by omega) (by omega)] at g
      by_cases ex : x = k
      · subst ex
        rw [uf_ls_k, if_pos g]; exact hk'
      · rw [uf_ls_n ex]; exact h5 x hx
    · subst e
      rw [hk', hd', nI_leI (by omega) (by omega)] at g
      by_cases ex : x = k
      · subst ex
        rw [pk_us, uf_ls_k, if_neg g]; exact hd'
      · rw [pk_un ex, uf_ls_n ex]; exact h5 x hx
  · exact pk_us
  · rw [pk_us]; exact h4 k hk
  · rw [pk_us]; exact h5 k hk
  · exact xu_tr_up h6 (fun i hi => ⟨pk_un (by omega), pk_un (by omega), pk_un (by omega)⟩)
theorem xu_pop {L : List (Nat × Nat)} {ts : Int32} {pa sh le tn tsh tl : Nat → Int32} {k d : Nat} (hU : xu_U ((k, d) :: L) ts pa sh le tn tsh tl) : xu_U L (nI L.length) (upd pa d (nI d)) (upd sh k (tsh L.length)) (upd le k (tl L.length)) tn tsh tl := by
  obtain ⟨⟨hk, hd, hkd, rk, rd, h1⟩, h2, h3, h4, h5, t1, t2, t3, t4⟩ := hU
  refine ⟨h1, rfl, fun x hx => ?_, fun x hx => ?_, fun x hx => ?_, t4⟩
  · by_cases e : x = d
    · subst e
      rw [pk_us, (uf_root h1 x).mpr rd]
    · rw [pk_un e, h3 x hx]
      exact congrArg nI (if_neg e)
  · by_cases e : x = k
    · subst e
      rw [pk_us]; exact t2
    · rw [pk_un e, h4 x hx, uf_sh_n e]
  · by_cases e : x = k
    · subst e
      rw [pk_us]; exact t3
    · rw [pk_un e, h5 x hx, uf_ls_n e]
section XU
variable {f_bags f_elems f_maxBasis f_maxWord f_stage f_currentMask f_pendingWord f_pendingLength f_atoms f_boxSize f_liveSet f_elementSet f_frontierEnd f_basisSize f_knownCount f_trailSize : Int32} {a_atomCode a_atomWord a_leftTimes a_rightTimes a_coefficient a_fieldCap a_fieldShift a_seen a_frontierCode a_frontierDefect a_basisCode a_cover a_choice a_covered a_trailMark a_nodeSymbol a_nodeChild a_atomNode a_parent a_weight a_shape a_least a_trailNode a_trailShape a_trailLeast a_thingBase : Nat → Int32} {a_thingWord : Nat → Int64}
theorem xu_root_l {post : Int32 → Prop} {L : List (Nat × Nat)} (hL : uf_ok (fun x => x < 40) L) (hp : ∀ x, x < 40 → a_parent x = nI (uf_pa L x)) : ∀ n x j, x < 40 → j + uf_dp L x ≤ 39 → uf_dp L x < n → post (nI (uf_rt L x)) → wX_rootOf_4 post f_bags f_elems f_maxBasis f_maxWord f_stage f_currentMask f_pendingWord f_pendingLength f_atoms f_boxSize f_liveSet f_elementSet f_frontierEnd f_basisSize f_knownCount f_trailSize a_atomCode a_atomWord a_leftTimes a_rightTimes a_coefficient a_fieldCap a_fieldShift a_seen a_frontierCode a_frontierDefect a_basisCode a_cover a_choice a_covered a_trailMark a_nodeSymbol a_nodeChild a_atomNode a_parent a_weight a_shape a_least a_trailNode a_trailShape a_trailLeast a_thingBase a_thingWord n (nI x) (nI j) := by
  intro n
  induction n with
  | zero => intro x j _ _ h; omega
  | succ n ih =>
    intro x j hx hj hn h
    unfold wX_rootOf_4
    refine pk_le 40 j (fun g => absurd g (by omega)) (fun _ => ⟨vp_in_nI hx (by omega), ?_⟩)
    rw [nI_clamp (show x < 2 ^ 31 by omega), hp x hx]
    have hpx : uf_pa L x < 40 := uf_pa_V hL x hx
    by_cases e : uf_pa L x = x
    · rw [(uf_root hL x).mp e] at h
      exact br_t (congrArg nI e) h
    · refine br_f (fun q => e ((nI_eq (by omega) (by omega)).mp q)) ⟨vp_in_nI hx (by omega), nm_e (nm_r (nI_1 j) ?_)⟩
      have hd := uf_dp_pa hL x e
      exact ih (uf_pa L x) (j + 1) hpx (by omega) (by omega) (by rw [uf_rt_pa hL x]; exact h)
theorem xu_root {post : Int32 → Prop} {L : List (Nat × Nat)} (hU : xu_U L f_trailSize a_parent a_shape a_least a_trailNode a_trailShape a_trailLeast) {x : Nat} (hx : x < 40) (h : post (nI (uf_rt L x))) : wpX_rootOf post (f_bags, f_elems, f_maxBasis, f_maxWord, f_stage, f_currentMask, f_pendingWord, f_pendingLength, f_atoms, f_boxSize, f_liveSet, f_elementSet, f_frontierEnd, f_basisSize, f_knownCount, f_trailSize, a_atomCode, a_atomWord, a_leftTimes, a_rightTimes, a_coefficient, a_fieldCap, a_fieldShift, a_seen, a_frontierCode, a_frontierDefect, a_basisCode, a_cover, a_choice, a_covered, a_trailMark, a_nodeSymbol, a_nodeChild, a_atomNode, a_parent, a_weight, a_shape, a_least, a_trailNode, a_trailShape, a_trailLeast, a_thingBase, a_thingWord) (nI x) := by
  have h1 := uf_dp_le L x
  have h2 := xu_len hU.1
  exact ⟨uf_dp L x + 1, xu_root_l hU.1 hU.2.2.1 (uf_dp L x + 1) x 0 hx (by omega) (by omega) h⟩
theorem xu_merge_26 {post : SX → Prop} {L : List (Nat × Nat)} (hU : xu_U L f_trailSize a_parent a_shape a_least a_trailNode a_trailShape a_trailLeast) {k d : Nat} (hk : k < 40) (hd : d < 40) (hkd : k ≠ d) (rk : uf_rt L k = k) (rd : uf_rt L d = d)
    (h : ∀ ts pa we sh le tn tsh tl, xu_U ((k, d) :: L) ts pa sh le tn tsh tl → post (f_bags, f_elems, f_maxBasis, f_maxWord, f_stage, f_currentMask, f_pendingWord, f_pendingLength, f_atoms, f_boxSize, f_liveSet, f_elementSet, f_frontierEnd, f_basisSize, f_knownCount, ts, a_atomCode, a_atomWord, a_leftTimes, a_rightTimes, a_coefficient, a_fieldCap, a_fieldShift, a_seen, a_frontierCode, a_frontierDefect, a_basisCode, a_cover, a_choice, a_covered, a_trailMark, a_nodeSymbol, a_nodeChild, a_atomNode, pa, we, sh, le, tn, tsh, tl, a_thingBase, a_thingWord)) : wX_merge_26 post (nI k) (nI d) f_bags f_elems f_maxBasis f_maxWord f_stage f_currentMask f_pendingWord f_pendingLength f_atoms f_boxSize f_liveSet f_elementSet f_frontierEnd f_basisSize f_knownCount f_trailSize a_atomCode a_atomWord a_leftTimes a_rightTimes a_coefficient a_fieldCap a_fieldShift a_seen a_frontierCode a_frontierDefect a_basisCode a_cover a_choice a_covered a_trailMark a_nodeSymbol a_nodeChild a_atomNode a_parent a_weight a_shape a_least a_trailNode a_trailShape a_trailLeast a_thingBase a_thingWord := by
  have hlen : L.length ≤ 38 := uf_len2 (V := fun x => x < 40) (fun _ q => q) hU.1 hk hd (by rw [rk, rd]; exact hkd)
  have hts := hU.2.1
  have ik : vp_in (nI k) 40 := vp_in_nI hk (by omega)
  have id : vp_in (nI d) 40 := vp_in_nI hd (by omega)
  have it : vp_in f_trailSize 40 := by rw [hts]; exact vp_in_nI (by omega) (by omega)
  have ck : (nI k).toNatClampNeg = k := nI_clamp (by omega)
  have cd : (nI d).toNatClampNeg = d := nI_clamp (by omega)
  have ct : f_trailSize.toNatClampNeg = L.length := by rw [hts]; exact nI_clamp (by omega)
  unfold wX_merge_26
  rw [ck, cd, ct]
  refine ⟨it, nm_e ⟨ik, it, nm_e ⟨ik, it, nm_e (nm_e ⟨id, nm_e ⟨ik, id, ik, nm_e ⟨ik, ?_⟩⟩⟩)⟩⟩⟩
  refine br_c (fun hs => ?_) (fun hs => ⟨id, ik, nm_e ?_⟩)
  · unfold wX_merge_123
    rw [ck, cd]
    refine ⟨id, ik, br_c (fun hl => h _ _ _ _ _ _ _ _ (xu_push hU hk hd hkd rk rd rfl (Or.inl ⟨hs, rfl⟩) (Or.inl ⟨hl, rfl⟩) rfl rfl rfl)) (fun hl => ⟨id, ik, nm_e (h _ _ _ _ _ _ _ _ (xu_push hU hk hd hkd rk rd rfl (Or.inl ⟨hs, rfl⟩) (Or.inr ⟨hl, rfl⟩) rfl rfl rfl))⟩)⟩
  · unfold wX_merge_123
    rw [ck, cd]
    refine ⟨id, ik, br_c (fun hl => h _ _ _ _ _ _ _ _ (xu_push hU hk hd hkd rk rd rfl (Or.inr ⟨hs, rfl⟩) (Or.inl ⟨hl, rfl⟩) rfl rfl rfl)) (fun hl => ⟨id, ik, nm_e (h _ _ _ _ _ _ _ _ (xu_push hU hk hd hkd rk rd rfl (Or.inr ⟨hs, rfl⟩) (Or.inr ⟨hl, rfl⟩) rfl rfl rfl))⟩)⟩
theorem xu_merge {post : SX → Prop} {L : List (Nat × Nat)} (hU : xu_U L f_trailSize a_parent a_shape a_least a_trailNode a_trailShape a_trailLeast) {p q : Nat} (hp : p < 40) (hq : q < 40) (hpq : p ≠ q) (rp : uf_rt L p = p) (rq : uf_rt L q = q)
    (h : ∀ k d ts pa we sh le tn tsh tl, ((k = p ∧ d = q) ∨ (k = q ∧ d = p)) → xu_U ((k, d) :: L) ts pa sh le tn tsh tl → post (f_bags, f_elems, f_maxBasis, f_maxWord, f_stage, f_currentMask, f_pendingWord, f_pendingLength, f_atoms, f_boxSize, f_liveSet, f_elementSet, f_frontierEnd, f_basisSize, f_knownCount, ts, a_atomCode, a_atomWord, a_leftTimes, a_rightTimes, a_coefficient, a_fieldCap, a_fieldShift, a_seen, a_frontierCode, a_frontierDefect, a_basisCode, a_cover, a_choice, a_covered, a_trailMark, a_nodeSymbol, a_nodeChild, a_atomNode, pa, we, sh, le, tn, tsh, tl, a_thingBase, a_thingWord)) : wpX_merge post (f_bags, f_elems, f_maxBasis, f_maxWord, f_stage, f_currentMask, f_pendingWord, f_pendingLength, f_atoms, f_boxSize, f_liveSet, f_elementSet, f_frontierEnd, f_basisSize, f_knownCount, f_trailSize, a_atomCode, a_atomWord, a_leftTimes, a_rightTimes, a_coefficient, a_fieldCap, a_fieldShift, a_seen, a_frontierCode, a_frontierDefect, a_basisCode, a_cover, a_choice, a_covered, a_trailMark, a_nodeSymbol, a_nodeChild, a_atomNode, a_parent, a_weight, a_shape, a_least, a_trailNode, a_trailShape, a_trailLeast, a_thingBase, a_thingWord) (nI p) (nI q) := by
  refine ⟨vp_in_nI hp (by omega), vp_in_nI hq (by omega), br_c (fun _ => ?_) (fun _ => ?_)⟩
  · exact xu_merge_26 hU hp hq hpq rp rq (fun ts pa we sh le tn tsh tl => h p q ts pa we sh le tn tsh tl (Or.inl ⟨rfl, rfl⟩))
  · exact xu_merge_26 hU hq hp (fun z => hpq z.symm) rq rp (fun ts pa we sh le tn tsh tl => h q p ts pa we sh le tn tsh tl (Or.inr ⟨rfl, rfl⟩))
theorem xu_undo_l {post : SX → Prop} {L0 : List (Nat × Nat)} {tn tsh tl : Nat → Int32} (h : ∀ pa we sh le, xu_U L0 (nI L0.length) pa sh le tn tsh tl → post (f_bags, f_elems, f_maxBasis, f_maxWord, f_stage, f_currentMask, f_pendingWord, f_pendingLength, f_atoms, f_boxSize, f_liveSet, f_elementSet, f_frontierEnd, f_basisSize, f_knownCount, nI L0.length, a_atomCode, a_atomWord, a_leftTimes, a_rightTimes, a_coefficient, a_fieldCap, a_fieldShift, a_seen, a_frontierCode, a_frontierDefect, a_basisCode, a_cover, a_choice, a_covered, a_trailMark, a_nodeSymbol, a_nodeChild, a_atomNode, pa, we, sh, le, tn, tsh, tl, a_thingBase, a_thingWord)) : ∀ (M : List (Nat × Nat)) (n : Nat) (pa we sh le : Nat → Int32), M.length < n → xu_U (M ++ L0) (nI (M ++ L0).length) pa sh le tn tsh tl → wX_undoTo_7 post (nI L0.length) f_bags f_elems f_maxBasis f_maxWord f_stage f_currentMask f_pendingWord f_pendingLength f_atoms f_boxSize f_liveSet f_elementSet f_frontierEnd f_basisSize f_knownCount n (nI (M ++ L0).length + (-1)) (nI (M ++ L0).length) a_atomCode a_atomWord a_leftTimes a_rightTimes a_coefficient a_fieldCap a_fieldShift a_seen a_frontierCode a_frontierDefect a_basisCode a_cover a_choice a_covered a_trailMark a_nodeSymbol a_nodeChild a_atomNode pa we sh le tn tsh tl a_thingBase a_thingWord := by
  intro M
  induction M with
  | nil =>
    intro n pa we sh le hn hU
    obtain ⟨n, rfl⟩ : ∃ m, n = m + 1 := ⟨n - 1, by omega⟩
    have hlen := xu_len hU.1
    unfold wX_undoTo_7
    rw [List.nil_append] at hU hlen ⊢
    refine br_t ?_ (h pa we sh le hU)
    rcases Nat.eq_zero_or_pos L0.length with z | z
    · rw [z]; decide
    · obtain ⟨m, hm⟩ : ∃ m, L0.length = m + 1 := ⟨L0.length - 1, by omega⟩
      rw [hm, pk_m1]
      exact nI_lt (by omega) (by omega)
  | cons p M ih =>
    obtain ⟨k, d⟩ := p
    intro n pa we sh le hn hU
    rw [List.length_cons] at hn
    obtain ⟨n, rfl⟩ : ∃ m, n = m + 1 := ⟨n - 1, by omega⟩
    have hU' : xu_U ((k, d) :: (M ++ L0)) (nI ((k, d) :: (M ++ L0)).length) pa sh le tn tsh tl := hU
    have hlen := xu_len hU'.1
    have hpop := xu_pop hU'
    obtain ⟨⟨hk, hd, hkd, rk, rd, h1⟩, h2, h3, h4, h5, t1, t2, t3, t4⟩ := hU'
    have hl2 : ((k, d) :: M ++ L0).length = (M ++ L0).length + 1 := rfl
    rw [List.length_cons] at hlen
    have hge : L0.length ≤ (M ++ L0).length := by rw [List.length_append]; omega
    have e : uf_pa ((k, d) :: (M ++ L0)) d = k := if_pos rfl
    have hpd := h3 d hd
    rw [e] at hpd
    have im : vp_in (nI (M ++ L0).length) 40 := vp_in_nI (by omega) (by omega)
    have ik : vp_in (nI k) 40 := vp_in_nI hk (by omega)
    have id : vp_in (nI d) 40 := vp_in_nI hd (by omega)
    have ck : (nI k).toNatClampNeg = k := nI_clamp (by omega)
    have cd : (nI d).toNatClampNeg = d := nI_clamp (by omega)
    have cm : (nI (M ++ L0).length).toNatClampNeg = (M ++ L0).length := nI_clamp (by omega)
    unfold wX_undoTo_7
    rw [hl2, pk_m1, cm, t1]
    refine br_f (nI_nlt hge (by omega)) (br_f (nI_pos (by omega)) ⟨im, nm_r (e' := nI d) rfl ?_⟩)
    rw [cd, hpd]
    refine ⟨id, nm_r (e' := nI k) rfl ?_⟩
    rw [ck]
    refine ⟨id, nm_e ⟨ik, id, ik, nm_e ⟨im, ik, nm_e ⟨im, ik, nm_e (nm_e ?_)⟩⟩⟩⟩
    exact ih n _ _ _ _ (by omega) hpop
theorem xu_undo {post : SX → Prop} {L : List (Nat × Nat)} (hU : xu_U L f_trailSize a_parent a_shape a_least a_trailNode a_trailShape a_trailLeast) (M L0 : List (Nat × Nat)) (hM : L = M ++ L0)
    (h : ∀ pa we sh le, xu_U L0 (nI L0.length) pa sh le a_trailNode a_trailShape a_trailLeast → post (f_bags, f_elems, f_maxBasis, f_maxWord, f_stage, f_currentMask, f_pendingWord, f_pendingLength, f_atoms, f_boxSize, f_liveSet, f_elementSet, f_frontierEnd, f_basisSize, f_knownCount, nI L0.length, a_atomCode, a_atomWord, a_leftTimes, a_rightTimes, a_coefficient, a_fieldCap, a_fieldShift, a_seen, a_frontierCode, a_frontierDefect, a_basisCode, a_cover, a_choice, a_covered, a_trailMark, a_nodeSymbol, a_nodeChild, a_atomNode, pa, we, sh, le, a_trailNode, a_trailShape, a_trailLeast, a_thingBase, a_thingWord)) : wpX_undoTo post (f_bags, f_elems, f_maxBasis, f_maxWord, f_stage, f_currentMask, f_pendingWord, f_pendingLength, f_atoms, f_boxSize, f_liveSet, f_elementSet, f_frontierEnd, f_basisSize, f_knownCount, f_trailSize, a_atomCode, a_atomWord, a_leftTimes, a_rightTimes, a_coefficient, a_fieldCap, a_fieldShift, a_seen, a_frontierCode, a_frontierDefect, a_basisCode, a_cover, a_choice, a_covered, a_trailMark, a_nodeSymbol, a_nodeChild, a_atomNode, a_parent, a_weight, a_shape, a_least, a_trailNode, a_trailShape, a_trailLeast, a_thingBase, a_thingWord) (nI L0.length) := by
  subst hM
  have hts := hU.2.1
  subst hts
  refine nm_r (e' := nI (M ++ L0).length + (-1)) ?_ ⟨M.length + 1, ?_⟩
  · rw [Int32.sub_eq_add_neg]
  · exact xu_undo_l h M (M.length + 1) _ _ _ _ (by omega) hU
end XU
end
section
/-! the component's unification of nodes -/
section XJ
variable {f_bags f_elems f_maxBasis f_maxWord f_stage f_currentMask f_pendingWord f_pendingLength f_atoms f_boxSize f_liveSet f_elementSet f_frontierEnd f_basisSize f_knownCount f_trailSize : Int32} {a_atomCode a_atomWord a_leftTimes a_rightTimes a_coefficient a_fieldCap a_fieldShift a_seen a_frontierCode a_frontierDefect a_basisCode a_cover a_choice a_covered a_trailMark a_nodeSymbol a_nodeChild a_atomNode a_parent a_weight a_shape a_least a_trailNode a_trailShape a_trailLeast a_thingBase : Nat → Int32} {a_thingWord : Nat → Int64}
variable {V : Nat → Prop} {nt : Nat → ch_C} {sy nc : Nat → Nat}
def xj_N (V : Nat → Prop) (sy nc : Nat → Nat) (ns nch : Nat → Int32) : Prop := ∀ x, V x → x < 32 → ns x = nI (sy x) ∧ nch x = nI (nc x) ∧ sy x < 4 ∧ 0 < sy x
theorem xj_unify_l (H : un_S V nt sy nc) (hN : xj_N V sy nc a_nodeSymbol a_nodeChild) {L0 : List (Nat × Nat)} {x0 y0 : Nat} {post : Int32 → SX → Prop}
    (hT : ∀ L ts pa we sh le tn tsh tl, xu_U L ts pa sh le tn tsh tl → (∃ M, L = M ++ L0) → un_D V sy nc L0 x0 L → (∀ s, un_sol nt s L ↔ un_sol nt s L0 ∧ un_eq nt s x0 y0) → post 1 (f_bags, f_elems, f_maxBasis, f_maxWord, f_stage, f_currentMask, f_pendingWord, f_pendingLength, f_atoms, f_boxSize, f_liveSet, f_elementSet, f_frontierEnd, f_basisSize, f_knownCount, ts, a_atomCode, a_atomWord, a_leftTimes, a_rightTimes, a_coefficient, a_fieldCap, a_fieldShift, a_seen, a_frontierCode, a_frontierDefect, a_basisCode, a_cover, a_choice, a_covered, a_trailMark, a_nodeSymbol, a_nodeChild, a_atomNode, pa, we, sh, le, tn, tsh, tl, a_thingBase, a_thingWord))
    (hF : ∀ L ts pa we sh le tn tsh tl, xu_U L ts pa sh le tn tsh tl → (∃ M, L = M ++ L0) → (∀ s, ¬ (un_sol nt s L0 ∧ un_eq nt s x0 y0)) → post 0 (f_bags, f_elems, f_maxBasis, f_maxWord, f_stage, f_currentMask, f_pendingWord, f_pendingLength, f_atoms, f_boxSize, f_liveSet, f_elementSet, f_frontierEnd, f_basisSize, f_knownCount, ts, a_atomCode, a_atomWord, a_leftTimes, a_rightTimes, a_coefficient, a_fieldCap, a_fieldShift, a_seen, a_frontierCode, a_frontierDefect, a_basisCode, a_cover, a_choice, a_covered, a_trailMark, a_nodeSymbol, a_nodeChild, a_atomNode, pa, we, sh, le, tn, tsh, tl, a_thingBase, a_thingWord)) :
    ∀ n L x y j ts pa we sh le tn tsh tl, un_I V sy nc L0 x0 L x y → (∃ M, L = M ++ L0) → (∀ s, un_sol nt s L ∧ un_eq nt s x y ↔ un_sol nt s L0 ∧ un_eq nt s x0 y0) → xu_U L ts pa sh le tn tsh tl → j ≤ L.length → 40 ≤ n + L.length →
      wX_unify_8 post n (nI x) (nI y) (nI j) f_bags f_elems f_maxBasis f_maxWord f_stage f_currentMask f_pendingWord f_pendingLength f_atoms f_boxSize f_liveSet f_elementSet f_frontierEnd f_basisSize f_knownCount ts a_atomCode a_atomWord a_leftTimes a_rightTimes a_coefficient a_fieldCap a_fieldShift a_seen a_frontierCode a_frontierDefect a_basisCode a_cover a_choice a_covered a_trailMark a_nodeSymbol a_nodeChild a_atomNode pa we sh le tn tsh tl a_thingBase a_thingWord := by
  intro n
  induction n with
  | zero =>
    intro L x y j ts pa we sh le tn tsh tl hI hM hs hU hj hn
    have := xu_len hU.1
    omega
  | succ n ih =>
    intro L x y j ts pa we sh le tn tsh tl hI hM hs hU hj hn
    have hlen := xu_len hU.1
    have hI' := hI
    obtain ⟨hL, hx, hy, _, _, _⟩ := hI'
    have hx4 := H.1 x hx
    have hy4 := H.1 y hy
    have rx4 : uf_rt L x < 40 := H.1 _ (uf_rt_V hL x hx)
    have ry4 : uf_rt L y < 40 := H.1 _ (uf_rt_V hL y hy)
    unfold wX_unify_8
    refine pk_le 40 j (fun g => absurd g (by omega)) (fun _ => xu_root hU hx4 (xu_root hU hy4 ?_))
    by_cases e : uf_rt L x = uf_rt L y
    · refine br_t (congrArg nI e) (hT L ts pa we sh le tn tsh tl hU hM (un_same_D hI e) (fun s => ?_))
      rw [← hs s]
      exact ⟨fun h => ⟨h, un_sol_same h e⟩, fun h => h.1⟩
    · refine br_f (fun q => e ((nI_eq (by omega) (by omega)).mp q)) ⟨vp_in_nI rx4 (by omega), nm_r (e' := xu_s (uf_sh L (uf_rt L x))) (by rw [nI_clamp (by omega)]; exact hU.2.2.2.1 _ rx4) ⟨vp_in_nI ry4 (by omega), nm_r (e' := xu_s (uf_sh L (uf_rt L y))) (by rw [nI_clamp (by omega)]; exact hU.2.2.2.1 _ ry4) (xu_merge hU rx4 ry4 e (uf_rt_rt hL x) (uf_rt_rt hL y) ?_)⟩⟩
      intro k d ts' pa' we' sh' le' tn' tsh' tl' o hU'
      have hM' : ∃ M, (k, d) :: L = M ++ L0 := by
        obtain ⟨M, hM⟩ := hM
        exact ⟨(k, d) :: M, by rw [hM]; rfl⟩
      have hsm : ∀ s, un_sol nt s ((k, d) :: L) ↔ un_sol nt s L0 ∧ un_eq nt s x0 y0 := fun s => (un_sol_mg o).trans (hs s)
      by_cases hfx : uf_sh L (uf_rt L x) < 40
      · have hfx0 : ¬ xu_s (uf_sh L (uf_rt L x)) < 0 := fun q => (xu_s_neg.mp q) hfx
        refine br_f hfx0 ?_
        by_cases hfy : uf_sh L (uf_rt L y) < 40
        · refine br_t (xu_s_0le.mpr hfy) ?_
          rw [xu_s_lt hfx, xu_s_lt hfy]
          refine pk_le 32 (uf_sh L (uf_rt L x)) (fun g => ?_) (fun g => ?_)
          · exact hF _ _ _ _ _ _ _ _ _ hU' hM' (fun s q => un_clash H hL hx hy e (by omega) (by omega) (Or.inl g) s ((hs s).mpr q))
          · refine pk_lt (uf_sh L (uf_rt L y)) 32 (fun g2 => ?_) (fun g2 => ?_)
            · obtain ⟨a1, b1, c1, d1⟩ := un_form H hL hx (by omega)
              obtain ⟨a2, b2, c2, d2⟩ := un_form H hL hy (by omega)
              obtain ⟨n1, n2, n3⟩ := hN _ a1 g
              obtain ⟨m1, m2, m3⟩ := hN _ a2 g2
              rw [nI_clamp (show uf_sh L (uf_rt L x) < 2 ^ 31 by omega), nI_clamp (show uf_sh L (uf_rt L y) < 2 ^ 31 by omega), n1, m1, n2, m2]
              refine ⟨vp_in_nI hfx (by omega), vp_in_nI hfy (by omega), ?_⟩
              by_cases hsy : sy (uf_sh L (uf_rt L x)) = sy (uf_sh L (uf_rt L y))
              · refine br_t (congrArg nI hsy) ⟨vp_in_nI hfx (by omega), nm_e ⟨vp_in_nI hfy (by omega), nm_e (nm_r (nI_1 j) ?_)⟩⟩
                refine ih ((k, d) :: L) _ _ (j + 1) ts' pa' we' sh' le' tn' tsh' tl' (un_next H hI o e g g2 hsy) hM' (fun s => ?_) hU' (by rw [List.length_cons]; omega) (by rw [List.length_cons]; omega)
                rw [← hs s]
                constructor
                · intro ⟨q1, q2⟩
                  have q3 := (un_sol_mg o).mp q1
                  exact q3
                · intro q
                  exact ⟨(un_sol_mg o).mpr q, ((un_clash2 H hL hx hy g g2 q.1).mp q.2).2⟩
              · refine br_f (fun q => hsy ((nI_eq (by omega) (by omega)).mp q)) (hF _ _ _ _ _ _ _ _ _ hU' hM' (fun s q => ?_))
                have q' := (hs s).mpr q
                exact hsy ((un_clash2 H hL hx hy g g2 q'.1).mp q'.2).1
            · exact hF _ _ _ _ _ _ _ _ _ hU' hM' (fun s q => un_clash H hL hx hy e (by omega) (by omega) (Or.inr g2) s ((hs s).mpr q))
        · have h40 : uf_sh L (uf_rt L y) = 40 := by
            have := uf_sh_le H.1 hL _ ry4
            omega
          exact br_f (fun q => hfy (xu_s_0le.mp q)) (hT _ _ _ _ _ _ _ _ _ hU' hM' (un_none_D H hI o e (Or.inr h40)) hsm)
      · have h40 : uf_sh L (uf_rt L x) = 40 := by
          have := uf_sh_le H.1 hL _ rx4
          omega
        exact br_t (xu_s_neg.mpr hfx) (hT _ _ _ _ _ _ _ _ _ hU' hM' (un_none_D H hI o e (Or.inl h40)) hsm)
theorem xj_fin_l (H : un_S V nt sy nc) (hN : xj_N V sy nc a_nodeSymbol a_nodeChild) {L : List (Nat × Nat)} (hL : uf_ok V L) (hU : xu_U L f_trailSize a_parent a_shape a_least a_trailNode a_trailShape a_trailLeast) {post : Int32 → Prop} : ∀ i j x, i + j = 41 → V x → (un_fw nc L i x → post 1) → (¬ un_fw nc L i x → post 0) → wX_isFinite_4 post f_bags f_elems f_maxBasis f_maxWord f_stage f_currentMask f_pendingWord f_pendingLength f_atoms f_boxSize f_liveSet f_elementSet f_frontierEnd f_basisSize f_knownCount f_trailSize a_atomCode a_atomWord a_leftTimes a_rightTimes a_coefficient a_fieldCap a_fieldShift a_seen a_frontierCode a_frontierDefect a_basisCode a_cover a_choice a_covered a_trailMark a_nodeSymbol a_nodeChild a_atomNode a_parent a_weight a_shape a_least a_trailNode a_trailShape a_trailLeast a_thingBase a_thingWord (i + 1) (nI x) (nI j) := by
  intro i
  induction i with
  | zero =>
    intro j x hj _ _ h0
    unfold wX_isFinite_4
    exact pk_lt 40 j (fun _ => h0 (fun q => q)) (fun g => absurd g (by omega))
  | succ i ih =>
    intro j x hj hx h1 h0
    have rx4 : uf_rt L x < 40 := H.1 _ (uf_rt_V hL x hx)
    unfold wX_isFinite_4
    refine pk_lt 40 j (fun g => absurd g (by omega)) (fun _ => xu_root hU (H.1 x hx) ⟨vp_in_nI rx4 (by omega), nm_r (e' := xu_s (uf_sh L (uf_rt L x))) (by rw [nI_clamp (by omega)]; exact hU.2.2.2.1 _ rx4) ?_⟩)
    by_cases hf : uf_sh L (uf_rt L x) < 40
    · refine br_f (fun q => (xu_s_neg.mp q) hf) ?_
      rw [xu_s_lt hf]
      refine pk_lt (uf_sh L (uf_rt L x)) 32 (fun g => ?_) (fun g => h1 (fun q => absurd q (by omega)))
      obtain ⟨a1, b1, c1, d1⟩ := un_form H hL hx (by omega)
      obtain ⟨n1, n2, n3⟩ := hN _ a1 g
      rw [nI_clamp (show uf_sh L (uf_rt L x) < 2 ^ 31 by omega), n2]
      refine ⟨vp_in_nI hf (by omega), nm_e (nm_r (nI_1 j) ?_)⟩
      exact ih (j + 1) _ (by omega) (H.2.1 _ a1 g).2.1 (fun q => h1 (fun _ => q)) (fun q => h0 (fun r => q (r g)))
    · exact br_t (xu_s_neg.mpr hf) (h1 (fun q => absurd q (by omega)))
theorem xj_fin (H : un_S V nt sy nc) (hN : xj_N V sy nc a_nodeSymbol a_nodeChild) {L : List (Nat × Nat)} (hL : uf_ok V L) (hU : xu_U L f_trailSize a_parent a_shape a_least a_trailNode a_trailShape a_trailLeast) {post : Int32 → Prop} {x : Nat} (hx : V x) (h1 : un_fw nc L 41 x → post 1) (h0 : ¬ un_fw nc L 41 x → post 0) : wpX_isFinite post (f_bags, f_elems, f_maxBasis, f_maxWord, f_stage, f_currentMask, f_pendingWord, f_pendingLength, f_atoms, f_boxSize, f_liveSet, f_elementSet, f_frontierEnd, f_basisSize, f_knownCount, f_trailSize, a_atomCode, a_atomWord, a_leftTimes, a_rightTimes, a_coefficient, a_fieldCap, a_fieldShift, a_seen, a_frontierCode, a_frontierDefect, a_basisCode, a_cover, a_choice, a_covered, a_trailMark, a_nodeSymbol, a_nodeChild, a_atomNode, a_parent, a_weight, a_shape, a_least, a_trailNode, a_trailShape, a_trailLeast, a_thingBase, a_thingWord) (nI x) :=
  ⟨42, xj_fin_l H hN hL hU 41 0 x rfl hx h1 h0⟩
/-- a member of the solution that is joined -/
def xj_eqs (A : Nat) (mem : Nat → Bool) (tm : Nat → ch_C) (s : Nat → ch_C) : Prop := ∀ a b, a < A → b < A → mem a = true → mem b = true → ch_v s (tm a) = ch_v s (tm b)
theorem xj_join_l (H : un_S V nt sy nc) (hN : xj_N V sy nc a_nodeSymbol a_nodeChild) {A : Nat} (hA : A ≤ 8) (hfa : f_atoms = nI A) {x2 : Int32} {mem : Nat → Bool} (hmem : ∀ a, a < A → (x2 >>> (nI a &&& 31)) &&& 1 = if mem a = true then 1 else 0) {an : Nat → Nat} {tm : Nat → ch_C} (han : ∀ a, a < A → mem a = true → V (an a) ∧ nt (an a) = tm a ∧ a_atomNode a = nI (an a))
    {L0 : List (Nat × Nat)} {post : Int32 → SX → Prop}
    (hT : ∀ L ts pa we sh le tn tsh tl, xu_U L ts pa sh le tn tsh tl → (∃ M, L = M ++ L0) → un_G V sy nc L → (∀ s, un_sol nt s L ↔ un_sol nt s L0 ∧ xj_eqs A mem tm s) → post 1 (f_bags, f_elems, f_maxBasis, f_maxWord, f_stage, f_currentMask, f_pendingWord, f_pendingLength, f_atoms, f_boxSize, f_liveSet, f_elementSet, f_frontierEnd, f_basisSize, f_knownCount, ts, a_atomCode, a_atomWord, a_leftTimes, a_rightTimes, a_coefficient, a_fieldCap, a_fieldShift, a_seen, a_frontierCode, a_frontierDefect, a_basisCode, a_cover, a_choice, a_covered, a_trailMark, a_nodeSymbol, a_nodeChild, a_atomNode, pa, we, sh, le, tn, tsh, tl, a_thingBase, a_thingWord))
    (hF : ∀ L ts pa we sh le tn tsh tl, xu_U L ts pa sh le tn tsh tl → (∃ M, L = M ++ L0) → (∀ s, ¬ (un_sol nt s L0 ∧ xj_eqs A mem tm s)) → post 0 (f_bags, f_elems, f_maxBasis, f_maxWord, f_stage, f_currentMask, f_pendingWord, f_pendingLength, f_atoms, f_boxSize, f_liveSet, f_elementSet, f_frontierEnd, f_basisSize, f_knownCount, ts, a_atomCode, a_atomWord, a_leftTimes, a_rightTimes, a_coefficient, a_fieldCap, a_fieldShift, a_seen, a_frontierCode, a_frontierDefect, a_basisCode, a_cover, a_choice, a_covered, a_trailMark, a_nodeSymbol, a_nodeChild, a_atomNode, pa, we, sh, le, tn, tsh, tl, a_thingBase, a_thingWord)) :
    ∀ n L x3 a ts pa we sh le tn tsh tl, a ≤ A → A < n + a → un_G V sy nc L → (∃ M, L = M ++ L0) → xu_U L ts pa sh le tn tsh tl →
      ((x3 = -1 ∧ (∀ b, b < a → mem b = false) ∧ ∀ s, un_sol nt s L ↔ un_sol nt s L0) ∨ (∃ a0, a0 < a ∧ mem a0 = true ∧ x3 = nI (an a0) ∧ ∀ s, un_sol nt s L ↔ un_sol nt s L0 ∧ ∀ b, b < a → mem b = true → ch_v s (tm a0) = ch_v s (tm b))) →
      wX_joinSolution_17 post x2 n x3 (nI a) f_bags f_elems f_maxBasis f_maxWord f_stage f_currentMask f_pendingWord f_pendingLength f_atoms f_boxSize f_liveSet f_elementSet f_frontierEnd f_basisSize f_knownCount ts a_atomCode a_atomWord a_leftTimes a_rightTimes a_coefficient a_fieldCap a_fieldShift a_seen a_frontierCode a_frontierDefect a_basisCode a_cover a_choice a_covered a_trailMark a_nodeSymbol a_nodeChild a_atomNode pa we sh le tn tsh tl a_thingBase a_thingWord := by
  intro n
  induction n with
  | zero => intro L x3 a ts pa we sh le tn tsh tl h1 h2; omega
  | succ n ih =>
    intro L x3 a ts pa we sh le tn tsh tl ha hn hG hM hU hI
    unfold wX_joinSolution_17
    subst hfa
    refine pk_le A a (fun g => ?_) (fun g => ?_)
    · have e : a = A := by omega
      subst e
      refine hT L ts pa we sh le tn tsh tl hU hM hG (fun s => ?_)
      rcases hI with ⟨_, h2, h3⟩ | ⟨a0, p1, p2, p3, p4⟩
      · rw [h3 s]
        exact ⟨fun q => ⟨q, fun x y hx _ hmx _ => by rw [h2 x hx] at hmx; exact absurd hmx Bool.false_ne_true⟩, fun q => q.1⟩
      · rw [p4 s]
        exact ⟨fun q => ⟨q.1, fun x y hx hy hmx hmy => (q.2 x hx hmx).symm.trans (q.2 y hy hmy)⟩, fun q => ⟨q.1, fun b hb hmb => q.2 a0 b p1 hb p2 hmb⟩⟩
    · rw [hmem a g]
      cases hma : mem a with
      | false =>
        refine br_t (by rfl) (nm_r (nI_1 a) (ih L x3 (a + 1) ts pa we sh le tn tsh tl (by omega) (by omega) hG hM hU ?_))
        rcases hI with ⟨h1, h2, h3⟩ | ⟨a0, p1, p2, p3, p4⟩
        · refine Or.inl ⟨h1, fun b hb => ?_, h3⟩
          by_cases e : b = a
          · rw [e]; exact hma
          · exact h2 b (by omega)
        · refine Or.inr ⟨a0, by omega, p2, p3, fun s => (p4 s).trans ⟨fun q => ⟨q.1, fun b hb hmb => ?_⟩, fun q => ⟨q.1, fun b hb hmb => q.2 b (by omega) hmb⟩⟩⟩
          by_cases e : b = a
          · rw [e, hma] at hmb; exact absurd hmb Bool.false_ne_true
          · exact q.2 b (by omega) hmb
      | true =>
        obtain ⟨v1, v2, v3⟩ := han a g hma
        refine br_f (by decide) ?_
        rw [nI_clamp (show a < 2 ^ 31 by omega), v3]
        have ia : vp_in (nI a) 8 := vp_in_nI (by omega) (by omega)
        rcases hI with ⟨h1, h2, h3⟩ | ⟨a0, p1, p2, p3, p4⟩
        · subst h1
          refine br_f (by decide) ⟨ia, nm_e (nm_r (nI_1 a) (ih L _ (a + 1) ts pa we sh le tn tsh tl (by omega) (by omega) hG hM hU (Or.inr ⟨a, by omega, hma, rfl, fun s => ?_⟩)))⟩
          rw [h3 s]
          refine ⟨fun q => ⟨q, fun b hb hmb => ?_⟩, fun q => q.1⟩
          by_cases e : b = a
          · rw [e]
          · rw [h2 b (by omega)] at hmb; exact absurd hmb Bool.false_ne_true
        · subst p3
          obtain ⟨w1, w2, w3⟩ := han a0 (by omega) p2
          have hw4 := H.1 _ w1
          refine br_t (nI_pos' (by omega)) ⟨ia, ?_⟩
          have heqs : ∀ s, un_eq nt s (an a0) (an a) ↔ ch_v s (tm a0) = ch_v s (tm a) := fun s => by unfold un_eq; rw [w2, v2]
          have hno : ∀ s, ¬ (un_sol nt s L ∧ un_eq nt s (an a0) (an a)) → ¬ (un_sol nt s L0 ∧ xj_eqs A mem tm s) := fun s q r =>
            q ⟨(p4 s).mpr ⟨r.1, fun b hb hmb => r.2 a0 b (by omega) (by omega) p2 hmb⟩, (heqs s).mpr (r.2 a0 a (by omega) g p2 hma)⟩
          have tr : ∀ {L' : List (Nat × Nat)}, (∃ M, L' = M ++ L) → ∃ M, L' = M ++ L0 := by
            intro L' ⟨M, hM'⟩
            obtain ⟨M2, hM2⟩ := hM
            exact ⟨M ++ M2, by rw [hM', hM2, List.append_assoc]⟩
          refine ⟨40, xj_unify_l H hN (L0 := L) (x0 := an a0) (y0 := an a) ?_ ?_ 40 L (an a0) (an a) 0 ts pa we sh le tn tsh tl (un_start hG w1 v1) ⟨[], rfl⟩ (fun s => Iff.rfl) hU (Nat.zero_le _) (by omega)⟩
          · intro L' ts' pa' we' sh' le' tn' tsh' tl' hU' hM' hD hs'
            refine br_f (by decide) (xj_fin H hN hD.1 hU' w1 (fun hf => ?_) (fun hf => ?_))
            · refine br_f (by decide) (nm_r (nI_1 a) (ih L' _ (a + 1) ts' pa' we' sh' le' tn' tsh' tl' (by omega) (by omega) (un_D_G H hG hD ⟨41, hf⟩) (tr hM') hU' (Or.inr ⟨a0, by omega, p2, rfl, fun s => ?_⟩)))
              rw [hs' s, p4 s, heqs s]
              constructor
              · intro ⟨⟨q1, q2⟩, q3⟩
                refine ⟨q1, fun b hb hmb => ?_⟩
                by_cases e : b = a
                · rw [e]; exact q3
                · exact q2 b (by omega) hmb
              · intro ⟨q1, q2⟩
                exact ⟨⟨q1, fun b hb hmb => q2 b (by omega) hmb⟩, q2 a (by omega) hma⟩
            · refine br_t rfl (hF _ _ _ _ _ _ _ _ _ hU' (tr hM') (fun s => hno s (fun q => hf ?_)))
              exact un_fw_le (by omega) (un_fw25 H hD.1 ((hs' s).mpr q) w1)
          · intro L' ts' pa' we' sh' le' tn' tsh' tl' hU' hM' hs'
            exact br_t rfl (hF _ _ _ _ _ _ _ _ _ hU' (tr hM') (fun s => hno s (hs' s)))
theorem xj_join (H : un_S V nt sy nc) (hN : xj_N V sy nc a_nodeSymbol a_nodeChild) {A : Nat} (hA : A ≤ 8) (hfa : f_atoms = nI A) {k : Nat} (hk : k < 12) {mem : Nat → Bool} (hmem : ∀ a, a < A → ((a_cover k &&& f_elementSet) >>> (nI a &&& 31)) &&& 1 = if mem a = true then 1 else 0) {an : Nat → Nat} {tm : Nat → ch_C} (han : ∀ a, a < A → mem a = true → V (an a) ∧ nt (an a) = tm a ∧ a_atomNode a = nI (an a))
    {L0 : List (Nat × Nat)} (hG : un_G V sy nc L0) (hU : xu_U L0 f_trailSize a_parent a_shape a_least a_trailNode a_trailShape a_trailLeast) {post : Int32 → SX → Prop}
    (hT : ∀ L ts pa we sh le tn tsh tl, xu_U L ts pa sh le tn tsh tl → (∃ M, L = M ++ L0) → un_G V sy nc L → (∀ s, un_sol nt s L ↔ un_sol nt s L0 ∧ xj_eqs A mem tm s) → post 1 (f_bags, f_elems, f_maxBasis, f_maxWord, f_stage, f_currentMask, f_pendingWord, f_pendingLength, f_atoms, f_boxSize, f_liveSet, f_elementSet, f_frontierEnd, f_basisSize, f_knownCount, ts, a_atomCode, a_atomWord, a_leftTimes, a_rightTimes, a_coefficient, a_fieldCap, a_fieldShift, a_seen, a_frontierCode, a_frontierDefect, a_basisCode, a_cover, a_choice, a_covered, a_trailMark, a_nodeSymbol, a_nodeChild, a_atomNode, pa, we, sh, le, tn, tsh, tl, a_thingBase, a_thingWord))
    (hF : ∀ L ts pa we sh le tn tsh tl, xu_U L ts pa sh le tn tsh tl → (∃ M, L = M ++ L0) → (∀ s, ¬ (un_sol nt s L0 ∧ xj_eqs A mem tm s)) → post 0 (f_bags, f_elems, f_maxBasis, f_maxWord, f_stage, f_currentMask, f_pendingWord, f_pendingLength, f_atoms, f_boxSize, f_liveSet, f_elementSet, f_frontierEnd, f_basisSize, f_knownCount, ts, a_atomCode, a_atomWord, a_leftTimes, a_rightTimes, a_coefficient, a_fieldCap, a_fieldShift, a_seen, a_frontierCode, a_frontierDefect, a_basisCode, a_cover, a_choice, a_covered, a_trailMark, a_nodeSymbol, a_nodeChild, a_atomNode, pa, we, sh, le, tn, tsh, tl, a_thingBase, a_thingWord)) : wpX_joinSolution post (f_bags, f_elems, f_maxBasis, f_maxWord, f_stage, f_currentMask, f_pendingWord, f_pendingLength, f_atoms, f_boxSize, f_liveSet, f_elementSet, f_frontierEnd, f_basisSize, f_knownCount, f_trailSize, a_atomCode, a_atomWord, a_leftTimes, a_rightTimes, a_coefficient, a_fieldCap, a_fieldShift, a_seen, a_frontierCode, a_frontierDefect, a_basisCode, a_cover, a_choice, a_covered, a_trailMark, a_nodeSymbol, a_nodeChild, a_atomNode, a_parent, a_weight, a_shape, a_least, a_trailNode, a_trailShape, a_trailLeast, a_thingBase, a_thingWord) (nI k) := by
  refine ⟨vp_in_nI hk (by omega), nm_r (e' := a_cover k &&& f_elementSet) (by rw [nI_clamp (by omega)]) ⟨9, ?_⟩⟩
  exact xj_join_l H hN hA hfa hmem han hT hF 9 L0 (-1) 0 _ _ _ _ _ _ _ _ (Nat.zero_le _) (by omega) hG ⟨[], rfl⟩ hU (Or.inl ⟨rfl, fun b hb => absurd hb (Nat.not_lt_zero b), fun _ => Iff.rfl⟩)
end XJ
end
section
/-! prefixes of masks, and the steps that a search has left -/
theorem hb_hb {i j m : Nat} (h : j ≤ i) : mk_hb i (mk_hb j m) = mk_hb i m := by
  apply Nat.eq_of_testBit_eq
  intro k
  rw [mk_hb_bit, mk_hb_bit, mk_hb_bit]
  by_cases g : i ≤ k
  · rw [decide_eq_true g, decide_eq_true (show j ≤ k by omega), Bool.true_and]
  · rw [decide_eq_false g, Bool.false_and, Bool.false_and]
theorem hb_s (j m : Nat) : mk_hb j m = mk_hb (j + 1) m + (if m.testBit j = true then 2 ^ j else 0) := by
  unfold mk_hb
  rw [Nat.testBit_eq_decide_div_mod_eq]
  have h1 : m / 2 ^ (j + 1) = m / 2 ^ j / 2 := by rw [Nat.pow_succ, Nat.div_div_eq_div_mul]
  rw [h1, Nat.pow_succ]
  generalize 2 ^ j = p
  generalize m / p = q
  have h2 := Nat.div_add_mod q 2
  have h3 : q % 2 < 2 := Nat.mod_lt _ (by omega)
  by_cases e : q % 2 = 1
  · rw [if_pos (decide_eq_true e)]
    have : q = q / 2 * 2 + 1 := by omega
    generalize q / 2 = r at this ⊢
    subst this
    rw [Nat.add_mul, Nat.one_mul, Nat.mul_assoc, Nat.mul_comm 2 p]
  · rw [if_neg (by rw [decide_eq_false e]; exact Bool.false_ne_true)]
    have : q = q / 2 * 2 := by omega
    generalize q / 2 = r at this ⊢
    subst this
    rw [Nat.mul_assoc, Nat.mul_comm 2 p, Nat.add_zero]
theorem hb_le (j m : Nat) : mk_hb j m ≤ m := Nat.div_mul_le_self _ _
theorem hb_top {N m : Nat} (h : m < 2 ^ N) : mk_hb N m = 0 := by
  unfold mk_hb
  rw [Nat.div_eq_of_lt h, Nat.zero_mul]
theorem hb_0 (m : Nat) : mk_hb 0 m = m := by
  unfold mk_hb
  rw [Nat.pow_zero, Nat.div_one, Nat.mul_one]
theorem hb_room {N j m : Nat} (h : m < 2 ^ N) (hj : j ≤ N) : mk_hb j m + 2 ^ j ≤ 2 ^ N := by
  unfold mk_hb
  obtain ⟨r, rfl⟩ : ∃ r, N = j + r := ⟨N - j, by omega⟩
  have h1 : m / 2 ^ j < 2 ^ r := by
    rw [Nat.div_lt_iff_lt_mul (Nat.two_pow_pos _), Nat.mul_comm, ← Nat.pow_add]; exact h
  calc m / 2 ^ j * 2 ^ j + 2 ^ j = (m / 2 ^ j + 1) * 2 ^ j := by rw [Nat.add_mul, Nat.one_mul]
    _ ≤ 2 ^ r * 2 ^ j := Nat.mul_le_mul_right _ h1
    _ = 2 ^ (j + r) := by rw [← Nat.pow_add, Nat.add_comm]
theorem hb_agree {l P m : Nat} (hP : mk_hb l P = P) (h1 : P ≤ m) (h2 : m < P + 2 ^ l) {k : Nat} (hk : l ≤ k) : m.testBit k = P.testBit k := by
  have e : m / 2 ^ l = P / 2 ^ l := by
    unfold mk_hb at hP
    obtain ⟨d, rfl⟩ : ∃ d, m = P + d := ⟨m - P, by omega⟩
    rw [← hP]
    rw [Nat.mul_div_cancel _ (Nat.two_pow_pos l), Nat.add_comm, Nat.add_mul_div_right _ _ (Nat.two_pow_pos l), Nat.div_eq_of_lt (by omega), Nat.zero_add]
  have h3 := Nat.testBit_div_two_pow m (k - l) (n := l)
  have h4 := Nat.testBit_div_two_pow P (k - l) (n := l)
  rw [show k - l + l = k from by omega] at h3 h4
  rw [← h3, ← h4, e]
theorem hb_or {l P : Nat} (hP : mk_hb l P = P) : P ||| (2 ^ l - 1) = P + (2 ^ l - 1) := by
  unfold mk_hb at hP
  have hp := Nat.two_pow_pos l
  have := Nat.two_pow_add_eq_or_of_lt (i := l) (b := 2 ^ l - 1) (by omega) (P / 2 ^ l)
  rw [Nat.mul_comm, hP] at this
  exact this.symm
theorem hb_or1 {l P : Nat} (hP : mk_hb (l + 1) P = P) : P ||| 2 ^ l = P + 2 ^ l := by
  unfold mk_hb at hP
  have := Nat.two_pow_add_eq_or_of_lt (i := l + 1) (b := 2 ^ l) (Nat.pow_lt_pow_right (by omega) (by omega)) (P / 2 ^ (l + 1))
  rw [Nat.mul_comm, hP] at this
  exact this.symm
theorem hb_idem (j m : Nat) : mk_hb j (mk_hb j m) = mk_hb j m := hb_hb (Nat.le_refl j)
/-- the branch that is looked at: bit l set or not over the bits above -/
theorem hb_br {l P0 cc : Nat} (hP : mk_hb (l + 1) P0 = P0) (hc : cc ≤ 1) : mk_hb l (P0 + cc * 2 ^ l) = P0 + cc * 2 ^ l ∧ mk_hb (l + 1) (P0 + cc * 2 ^ l) = P0 ∧ (P0 + cc * 2 ^ l).testBit l = decide (cc = 1) ∧ ∀ k, l < k → (P0 + cc * 2 ^ l).testBit k = P0.testBit k := by
  have hbits : ∀ k, (P0 + cc * 2 ^ l).testBit k = (P0.testBit k || (decide (cc = 1) && decide (l = k))) := by
    intro k
    rcases (by omega : cc = 0 ∨ cc = 1) with e | e
    · subst e; simp
    · subst e
      rw [Nat.one_mul, ← hb_or1 hP, Nat.testBit_or, Nat.testBit_two_pow]
      simp
  have hP0 : ∀ k, k ≤ l → P0.testBit k = false := by
    intro k hk
    rw [← hP, mk_hb_bit, decide_eq_false (by omega), Bool.false_and]
  have key : ∀ k, (P0 + cc * 2 ^ l).testBit k = true → l ≤ k := by
    intro k hk
    apply Classical.byContradiction
    intro g
    rw [hbits k, hP0 k (by omega), decide_eq_false (show ¬ l = k by omega), Bool.and_false, Bool.or_false] at hk
    exact Bool.false_ne_true hk
  refine ⟨?_, ?_, ?_, ?_⟩
  · apply Nat.eq_of_testBit_eq
    intro k
    rw [mk_hb_bit]
    cases h : (P0 + cc * 2 ^ l).testBit k with
    | false => rw [Bool.and_false]
    | true => rw [decide_eq_true (key k h)]; rfl
  · apply Nat.eq_of_testBit_eq
    intro k
    rw [mk_hb_bit, hbits k]
    by_cases g : l + 1 ≤ k
    · rw [decide_eq_true g, decide_eq_false (show ¬ l = k by omega), Bool.and_false, Bool.or_false, Bool.true_and]
    · rw [decide_eq_false g, Bool.false_and, hP0 k (by omega)]
  · rw [hbits l, hP0 l (Nat.le_refl l), decide_eq_true (rfl : l = l), Bool.and_true, Bool.false_or]
  · intro k hk
    rw [hbits k, decide_eq_false (show ¬ l = k by omega), Bool.and_false, Bool.or_false]
/-! steps left -/
def hb_own (l cc : Nat) : Nat := (3 - cc) + (2 - cc) * (3 * (2 ^ l - 1))
def hb_dd (N ch : Nat) : Nat → Nat
  | 0 => 0
  | t + 1 => hb_dd N ch t + hb_own (N - 1 - t) ((if ch.testBit (N - 1 - t) = true then 1 else 0) + 1)
theorem hb_dd_congr {N ch ch' : Nat} : ∀ t, (∀ k, N - 1 - t < k → ch.testBit k = ch'.testBit k) → t ≤ N - 1 → hb_dd N ch t = hb_dd N ch' t := by
  intro t
  induction t with
  | zero => intro _ _; rfl
  | succ t ih =>
    intro h ht
    show hb_dd N ch t + _ = hb_dd N ch' t + _
    rw [ih (fun k hk => h k (by omega)) (by omega), h (N - 1 - t) (by omega)]
theorem hb_own_adv {l cc : Nat} (h : cc ≤ 1) : hb_own l (cc + 1) + 1 ≤ hb_own l cc := by
  unfold hb_own
  have := Nat.two_pow_pos l
  generalize 2 ^ l - 1 = p
  rcases (by omega : cc = 0 ∨ cc = 1) with e | e
  · subst e; omega
  · subst e; omega
theorem hb_own_down {l cc : Nat} (h : cc ≤ 1) : hb_own l 0 + hb_own (l + 1) (cc + 1) + 1 = hb_own (l + 1) cc := by
  unfold hb_own
  have h0 := Nat.two_pow_pos l
  rw [Nat.pow_succ]
  generalize 2 ^ l = p at h0 ⊢
  rcases (by omega : cc = 0 ∨ cc = 1) with e | e
  · subst e; omega
  · subst e; omega
theorem hb_own_top {l : Nat} (h : l < 12) : hb_own l 0 ≤ 12285 := by
  unfold hb_own
  have : 2 ^ l ≤ 2 ^ 11 := Nat.pow_le_pow_right (by omega) (by omega)
  omega
theorem hb_own2 (l : Nat) : hb_own l 2 = 1 := by
  unfold hb_own
  omega
end
section
/-! the component's search -/
def xs_E (A N : Nat) (B : Nat → Nat → Nat) (cd : Nat → Nat) (tm : Nat → ch_C) (c : Nat → Int) (V : Nat → Prop) (nt : Nat → ch_C) (sy nc an cv : Nat → Nat) (LV EL : Nat) : Prop :=
  A ≤ 8 ∧ N ≤ 12 ∧ mk_B A N B cd c ∧ (∀ k, k < N → mk_cov A B k (cv k)) ∧ mk_live A c LV ∧ mk_elt A c cd EL ∧ un_S V nt sy nc ∧ ∀ a, a < A → cd a < 20 → V (an a) ∧ nt (an a) = tm a
def xs_F (A N : Nat) (cd : Nat → Nat) (V : Nat → Prop) (sy nc an cv : Nat → Nat) (LV EL : Nat) (fa fb fl fe : Int32) (co ns nch ano : Nat → Int32) : Prop :=
  fa = nI A ∧ fb = nI N ∧ fl = nI LV ∧ fe = nI EL ∧ (∀ k, k < N → co k = nI (cv k)) ∧ xj_N V sy nc ns nch ∧ ∀ a, a < A → cd a < 20 → ano a = nI (an a)
section XS
variable {f_bags f_elems f_maxBasis f_maxWord f_stage f_currentMask f_pendingWord f_pendingLength f_atoms f_boxSize f_liveSet f_elementSet f_frontierEnd f_basisSize f_knownCount f_trailSize : Int32} {a_atomCode a_atomWord a_leftTimes a_rightTimes a_coefficient a_fieldCap a_fieldShift a_seen a_frontierCode a_frontierDefect a_basisCode a_cover a_choice a_covered a_trailMark a_nodeSymbol a_nodeChild a_atomNode a_parent a_weight a_shape a_least a_trailNode a_trailShape a_trailLeast a_thingBase : Nat → Int32} {a_thingWord : Nat → Int64}
variable {A N : Nat} {B : Nat → Nat → Nat} {cd : Nat → Nat} {tm : Nat → ch_C} {c : Nat → Int} {V : Nat → Prop} {nt : Nat → ch_C} {sy nc an cv : Nat → Nat} {LV EL : Nat}
theorem xs_cv (E : xs_E A N B cd tm c V nt sy nc an cv LV EL) {k : Nat} (hk : k < N) : cv k < 2 ^ 8 := ib_bit_lt (fun a ha => by have := ((E.2.2.2.1 k hk a).mp ha).1; have := E.1; omega)
theorem xs_LV (E : xs_E A N B cd tm c V nt sy nc an cv LV EL) : LV < 2 ^ 8 := ib_bit_lt (fun a ha => by have := ((E.2.2.2.2.1 a).mp ha).1; have := E.1; omega)
theorem xs_EL (E : xs_E A N B cd tm c V nt sy nc an cv LV EL) : EL < 2 ^ 8 := ib_bit_lt (fun a ha => by have := ((E.2.2.2.2.2.1 a).mp ha).1; have := E.1; omega)
theorem xs_un (hA : A ≤ 8) {m l x : Nat} (h : mk_un A N B m l x) : x < 2 ^ 8 := ib_bit_lt (fun a ha => by obtain ⟨_, _, _, _, h4, _⟩ := (h a).mp ha; omega)
theorem xs_rc (E : xs_E A N B cd tm c V nt sy nc an cv LV EL) {used x : Nat} (hx : x < 2 ^ 8) : ∀ l, l ≤ N → mk_rc cv used l x < 2 ^ 8 := by
  intro l
  induction l with
  | zero => intro _; exact hx
  | succ l ih =>
    intro hl
    have h1 := ih (by omega)
    show (if cv l &&& used = 0 then mk_rc cv used l x ||| cv l else mk_rc cv used l x) < 2 ^ 8
    split
    · exact ib_or_lt h1 (xs_cv E (by omega))
    · exact h1
theorem xs_can_l (E : xs_E A N B cd tm c V nt sy nc an cv LV EL) (F : xs_F A N cd V sy nc an cv LV EL f_atoms f_basisSize f_liveSet f_elementSet a_cover a_nodeSymbol a_nodeChild a_atomNode) {l used x : Nat} (hl : l ≤ N) (hx : x < 2 ^ 8) (hu : used < 2 ^ 8) {post : Int32 → Prop} (h1 : mk_rc cv used l x = LV → post 1) (h0 : ¬ mk_rc cv used l x = LV → post 0) :
    ∀ n k, k ≤ l → l < n + k → wX_canComplete_13 post (nI l) (nI used) f_bags f_elems f_maxBasis f_maxWord f_stage f_currentMask f_pendingWord f_pendingLength f_atoms f_boxSize f_liveSet f_elementSet f_frontierEnd f_basisSize f_knownCount f_trailSize a_atomCode a_atomWord a_leftTimes a_rightTimes a_coefficient a_fieldCap a_fieldShift a_seen a_frontierCode a_frontierDefect a_basisCode a_cover a_choice a_covered a_trailMark a_nodeSymbol a_nodeChild a_atomNode a_parent a_weight a_shape a_least a_trailNode a_trailShape a_trailLeast a_thingBase a_thingWord n (nI (mk_rc cv used k x)) (nI k) := by
  have hN := E.2.1
  intro n
  induction n with
  | zero => intro k _ _; omega
  | succ n ih =>
    intro k hk hn
    have hr := xs_rc E (used := used) hx k (by omega)
    unfold wX_canComplete_13
    refine pk_le l k (fun g => ?_) (fun g => ?_)
    · have e : k = l := by omega
      subst e
      rw [F.2.2.1]
      have := xs_LV E
      exact pk_eq (mk_rc cv used k x) LV h1 h0
    · have hc := xs_cv E (show k < N by omega)
      rw [nI_clamp (show k < 2 ^ 31 by omega), F.2.2.2.2.1 k (by omega), nx_and]
      refine ⟨vp_in_nI (by omega) (by omega), ?_⟩
      have hs : mk_rc cv used (k + 1) x = if cv k &&& used = 0 then mk_rc cv used k x ||| cv k else mk_rc cv used k x := rfl
      by_cases e : cv k &&& used = 0
      · rw [if_pos e] at hs
        refine br_t ((ib_0 (Nat.lt_trans (ib_and_lt hc) (by omega))).mpr e) ⟨vp_in_nI (by omega) (by omega), nm_r (ib_or _ _) (nm_r (nI_1 k) ?_)⟩
        rw [← hs]
        exact ih (k + 1) (by omega) (by omega)
      · rw [if_neg e] at hs
        refine br_f (fun q => e ((ib_0 (Nat.lt_trans (ib_and_lt hc) (by omega))).mp q)) (nm_r (nI_1 k) ?_)
        rw [← hs]
        exact ih (k + 1) (by omega) (by omega)
theorem xs_can (E : xs_E A N B cd tm c V nt sy nc an cv LV EL) (F : xs_F A N cd V sy nc an cv LV EL f_atoms f_basisSize f_liveSet f_elementSet a_cover a_nodeSymbol a_nodeChild a_atomNode) {l x : Nat} (hl : l ≤ N) (hx : x < 2 ^ 8) {post : Int32 → Prop} (h1 : mk_rc cv (x &&& EL) l x = LV → post 1) (h0 : ¬ mk_rc cv (x &&& EL) l x = LV → post 0) : wpX_canComplete post (f_bags, f_elems, f_maxBasis, f_maxWord, f_stage, f_currentMask, f_pendingWord, f_pendingLength, f_atoms, f_boxSize, f_liveSet, f_elementSet, f_frontierEnd, f_basisSize, f_knownCount, f_trailSize, a_atomCode, a_atomWord, a_leftTimes, a_rightTimes, a_coefficient, a_fieldCap, a_fieldShift, a_seen, a_frontierCode, a_frontierDefect, a_basisCode, a_cover, a_choice, a_covered, a_trailMark, a_nodeSymbol, a_nodeChild, a_atomNode, a_parent, a_weight, a_shape, a_least, a_trailNode, a_trailShape, a_trailLeast, a_thingBase, a_thingWord) (nI x) (nI l) := by
  have hF := F.2.2.2.1
  refine nm_r (e' := nI (x &&& EL)) (by rw [hF, nx_and]) ⟨l + 1, ?_⟩
  exact xs_can_l E F hl hx (ib_and_lt hx) h1 h0 (l + 1) 0 (Nat.zero_le _) (by omega)
/-- the equations of a mask: those of its lowest vector and of the rest -/
theorem xs_slv {l P : Nat} (hl : l < N) (hP : mk_hb l P = P) (hb : P.testBit l = true) {mem : Nat → Bool} (hm : ∀ a, a < A → (mem a = true ↔ cd a < 20 ∧ B l a = 1)) (s : Nat → ch_C) : mk_slv A N B cd tm P s ↔ mk_slv A N B cd tm (mk_hb (l + 1) P) s ∧ xj_eqs A mem tm s := by
  constructor
  · intro h
    refine ⟨mk_slv_mono (fun k _ hk => ?_) h, fun a b ha hb' hma hmb => ?_⟩
    · rw [mk_hb_bit, Bool.and_eq_true] at hk; exact hk.2
    · obtain ⟨p1, p2⟩ := (hm a ha).mp hma
      obtain ⟨q1, q2⟩ := (hm b hb').mp hmb
      exact h l hl hb a b ha hb' p1 q1 p2 q2
  · intro ⟨h1, h2⟩ k hk hbk a b ha hb' ca cb Ba Bb
    by_cases e : k = l
    · subst e
      exact h2 a b ha hb' ((hm a ha).mpr ⟨ca, Ba⟩) ((hm b hb').mpr ⟨cb, Bb⟩)
    · refine h1 k hk ?_ a b ha hb' ca cb Ba Bb
      rw [mk_hb_bit, Bool.and_eq_true]
      refine ⟨decide_eq_true ?_, hbk⟩
      rw [← hP, mk_hb_bit, Bool.and_eq_true] at hbk
      have := of_decide_eq_true hbk.1
      omega
theorem xs_skip {l P : Nat} (hP : mk_hb l P = P) (hb : P.testBit l = false) : mk_hb (l + 1) P = P := by
  have := hb_s l P
  rw [hb, hP, if_neg Bool.false_ne_true] at this
  omega
theorem xs_ext60 (E : xs_E A N B cd tm c V nt sy nc an cv LV EL) (F : xs_F A N cd V sy nc an cv LV EL f_atoms f_basisSize f_liveSet f_elementSet a_cover a_nodeSymbol a_nodeChild a_atomNode) {l P x : Nat} (hl : l < N) (hP : mk_hb l P = P) (hu : mk_un A N B P l x)
    {L0 : List (Nat × Nat)} (hG : un_G V sy nc L0) (hU : xu_U L0 f_trailSize a_parent a_shape a_least a_trailNode a_trailShape a_trailLeast) (hs : ∀ s, un_sol nt s L0 ↔ mk_slv A N B cd tm (mk_hb (l + 1) P) s) {z : Int32} (hz : (z = 0 ∧ P.testBit l = false) ∨ (z = 1 ∧ P.testBit l = true)) {post : Int32 → SX → Prop}
    (hT : ∀ L ts pa we sh le tn tsh tl, xu_U L ts pa sh le tn tsh tl → (∃ M, L = M ++ L0) → un_G V sy nc L → (∀ s, un_sol nt s L ↔ mk_slv A N B cd tm P s) → mk_rc cv (x &&& EL) l x = LV → post 1 (f_bags, f_elems, f_maxBasis, f_maxWord, f_stage, f_currentMask, f_pendingWord, f_pendingLength, f_atoms, f_boxSize, f_liveSet, f_elementSet, f_frontierEnd, f_basisSize, f_knownCount, ts, a_atomCode, a_atomWord, a_leftTimes, a_rightTimes, a_coefficient, a_fieldCap, a_fieldShift, a_seen, a_frontierCode, a_frontierDefect, a_basisCode, a_cover, a_choice, upd a_covered l (nI x), a_trailMark, a_nodeSymbol, a_nodeChild, a_atomNode, pa, we, sh, le, tn, tsh, tl, a_thingBase, a_thingWord))
    (hF : ∀ L ts pa we sh le tn tsh tl, xu_U L ts pa sh le tn tsh tl → (∃ M, L = M ++ L0) → (∀ m, (∀ k, l ≤ k → k < N → m.testBit k = P.testBit k) → ¬ mk_adm A N B cd tm c m) → post 0 (f_bags, f_elems, f_maxBasis, f_maxWord, f_stage, f_currentMask, f_pendingWord, f_pendingLength, f_atoms, f_boxSize, f_liveSet, f_elementSet, f_frontierEnd, f_basisSize, f_knownCount, ts, a_atomCode, a_atomWord, a_leftTimes, a_rightTimes, a_coefficient, a_fieldCap, a_fieldShift, a_seen, a_frontierCode, a_frontierDefect, a_basisCode, a_cover, a_choice, upd a_covered l (nI x), a_trailMark, a_nodeSymbol, a_nodeChild, a_atomNode, pa, we, sh, le, tn, tsh, tl, a_thingBase, a_thingWord)) :
    wX_extend_60 post (nI l) (nI x) z f_bags f_elems f_maxBasis f_maxWord f_stage f_currentMask f_pendingWord f_pendingLength f_atoms f_boxSize f_liveSet f_elementSet f_frontierEnd f_basisSize f_knownCount f_trailSize a_atomCode a_atomWord a_leftTimes a_rightTimes a_coefficient a_fieldCap a_fieldShift a_seen a_frontierCode a_frontierDefect a_basisCode a_cover a_choice a_covered a_trailMark a_nodeSymbol a_nodeChild a_atomNode a_parent a_weight a_shape a_least a_trailNode a_trailShape a_trailLeast a_thingBase a_thingWord := by
  have hN := E.2.1
  have hx := xs_un E.1 hu
  unfold wX_extend_60
  refine ⟨vp_in_nI (by omega) (by omega), nm_r (e' := upd a_covered l (nI x)) (by rw [nI_clamp (by omega)]) (xs_can E F (show l ≤ N by omega) hx (fun hc => ?_) (fun hc => ?_))⟩
  · refine br_f (by decide) ?_
    rcases hz with ⟨z0, hb⟩ | ⟨z1, hb⟩
    · subst z0
      refine br_t rfl (hT L0 _ _ _ _ _ _ _ _ hU ⟨[], rfl⟩ hG (fun s => ?_) hc)
      rw [hs s, xs_skip hP hb]
    · subst z1
      refine br_f (by decide) ?_
      have hm : ∀ a, a < A → ((cv l &&& EL).testBit a = true ↔ cd a < 20 ∧ B l a = 1) := by
        intro a ha
        rw [Nat.testBit_and, Bool.and_eq_true, E.2.2.2.1 l hl a, E.2.2.2.2.2.1 a]
        obtain ⟨b1, b2, b3⟩ := E.2.2.1 l hl a ha
        constructor
        · intro ⟨⟨_, p⟩, _, _, q⟩
          have := b3 q
          exact ⟨q, by omega⟩
        · intro ⟨p, q⟩
          exact ⟨⟨ha, by omega⟩, ha, b2 (by omega), p⟩
      have hcl := xs_cv E hl
      have hsl := fun s => xs_slv (tm := tm) hl hP hb hm s
      refine xj_join E.2.2.2.2.2.2.1 F.2.2.2.2.2.1 E.1 F.1 (show l < 12 by omega) (mem := fun a => (cv l &&& EL).testBit a) (an := an) (tm := tm) (fun a ha => ?_) (fun a ha hma => ?_) hG hU (fun L ts pa we sh le tn tsh tl hU' hM hG' hs' => ?_) (fun L ts pa we sh le tn tsh tl hU' hM hn => ?_)
      · rw [F.2.2.2.2.1 l hl, F.2.2.2.1, nx_and]
        have := E.1
        exact ib_bit (Nat.lt_trans (ib_and_lt hcl) (by omega)) (by omega)
      · have hca := (hm a ha).mp hma
        obtain ⟨p1, p2⟩ := E.2.2.2.2.2.2.2 a ha hca.1
        exact ⟨p1, p2, F.2.2.2.2.2.2 a ha hca.1⟩
      · refine br_f (by decide) (hT L _ _ _ _ _ _ _ _ hU' hM hG' (fun s => ?_) hc)
        rw [hs' s, hs s, hsl s]
      · refine br_t rfl (hF L _ _ _ _ _ _ _ _ hU' hM (fun m hm' ⟨_, s, hslv⟩ => ?_))
        apply hn s
        rw [hs s, ← hsl s]
        exact mk_slv_mono (fun k hk hbk => by
          have hlk : l ≤ k := by
            rw [← hP, mk_hb_bit, Bool.and_eq_true] at hbk
            exact of_decide_eq_true hbk.1
          rw [hm' k hlk hk]; exact hbk) hslv
  · refine br_t rfl (hF L0 _ _ _ _ _ _ _ _ hU ⟨[], rfl⟩ (fun m hm' hadm => ?_))
    exact hc (mk_can E.2.2.1 (by omega) hm' hu E.2.2.2.1 E.2.2.2.2.1 E.2.2.2.2.2.1 hadm.1)
theorem xs_extend (E : xs_E A N B cd tm c V nt sy nc an cv LV EL) (F : xs_F A N cd V sy nc an cv LV EL f_atoms f_basisSize f_liveSet f_elementSet a_cover a_nodeSymbol a_nodeChild a_atomNode) {l P x : Nat} (hl : l < N) (hP : mk_hb l P = P) (hch : (a_choice l = 0 ∧ P.testBit l = false) ∨ (a_choice l = 1 ∧ P.testBit l = true)) (hx : a_covered (l + 1) = nI x) (hu : mk_un A N B P (l + 1) x) (ho : mk_once A N B cd P (l + 1))
    {L0 : List (Nat × Nat)} (hG : un_G V sy nc L0) (hU : xu_U L0 f_trailSize a_parent a_shape a_least a_trailNode a_trailShape a_trailLeast) (hs : ∀ s, un_sol nt s L0 ↔ mk_slv A N B cd tm (mk_hb (l + 1) P) s) {post : Int32 → SX → Prop}
    (hT : ∀ x' L ts pa we sh le tn tsh tl, xu_U L ts pa sh le tn tsh tl → (∃ M, L = M ++ L0) → un_G V sy nc L → (∀ s, un_sol nt s L ↔ mk_slv A N B cd tm P s) → mk_un A N B P l x' → mk_once A N B cd P l → mk_rc cv (x' &&& EL) l x' = LV → post 1 (f_bags, f_elems, f_maxBasis, f_maxWord, f_stage, f_currentMask, f_pendingWord, f_pendingLength, f_atoms, f_boxSize, f_liveSet, f_elementSet, f_frontierEnd, f_basisSize, f_knownCount, ts, a_atomCode, a_atomWord, a_leftTimes, a_rightTimes, a_coefficient, a_fieldCap, a_fieldShift, a_seen, a_frontierCode, a_frontierDefect, a_basisCode, a_cover, a_choice, upd a_covered l (nI x'), a_trailMark, a_nodeSymbol, a_nodeChild, a_atomNode, pa, we, sh, le, tn, tsh, tl, a_thingBase, a_thingWord))
    (hF : ∀ co L ts pa we sh le tn tsh tl, xu_U L ts pa sh le tn tsh tl → (∃ M, L = M ++ L0) → (∀ j, j ≠ l → co j = a_covered j) → (∀ m, (∀ k, l ≤ k → k < N → m.testBit k = P.testBit k) → ¬ mk_adm A N B cd tm c m) → post 0 (f_bags, f_elems, f_maxBasis, f_maxWord, f_stage, f_currentMask, f_pendingWord, f_pendingLength, f_atoms, f_boxSize, f_liveSet, f_elementSet, f_frontierEnd, f_basisSize, f_knownCount, ts, a_atomCode, a_atomWord, a_leftTimes, a_rightTimes, a_coefficient, a_fieldCap, a_fieldShift, a_seen, a_frontierCode, a_frontierDefect, a_basisCode, a_cover, a_choice, co, a_trailMark, a_nodeSymbol, a_nodeChild, a_atomNode, pa, we, sh, le, tn, tsh, tl, a_thingBase, a_thingWord)) :
    wpX_extend post (f_bags, f_elems, f_maxBasis, f_maxWord, f_stage, f_currentMask, f_pendingWord, f_pendingLength, f_atoms, f_boxSize, f_liveSet, f_elementSet, f_frontierEnd, f_basisSize, f_knownCount, f_trailSize, a_atomCode, a_atomWord, a_leftTimes, a_rightTimes, a_coefficient, a_fieldCap, a_fieldShift, a_seen, a_frontierCode, a_frontierDefect, a_basisCode, a_cover, a_choice, a_covered, a_trailMark, a_nodeSymbol, a_nodeChild, a_atomNode, a_parent, a_weight, a_shape, a_least, a_trailNode, a_trailShape, a_trailLeast, a_thingBase, a_thingWord) (nI l) := by
  have hN := E.2.1
  have hA := E.1
  unfold wpX_extend
  dsimp only
  rw [nI_1, nI_clamp (show l + 1 < 2 ^ 31 by omega), nI_clamp (show l < 2 ^ 31 by omega), hx]
  refine ⟨vp_in_nI (by omega) (by omega), nm_e ⟨vp_in_nI (by omega) (by omega), ?_⟩⟩
  rcases hch with ⟨c0, hb⟩ | ⟨c1, hb⟩
  · refine br_f (by rw [c0]; decide) (br_t rfl ?_)
    refine xs_ext60 E F hl hP (mk_un_skip hb hu) hG hU hs (Or.inl ⟨rfl, hb⟩) (fun L ts pa we sh le tn tsh tl a1 a2 a3 a4 a5 => ?_) (fun L ts pa we sh le tn tsh tl a1 a2 a3 => ?_)
    · exact hT x L ts pa we sh le tn tsh tl a1 a2 a3 a4 (mk_un_skip hb hu) (mk_once_skip hb ho) a5
    · exact hF _ L ts pa we sh le tn tsh tl a1 a2 (fun j hj => pk_un hj) a3
  · refine br_t c1 (br_f (by decide) ⟨vp_in_nI (by omega) (by omega), ?_⟩)
    rw [nI_clamp (show l < 2 ^ 31 by omega), F.2.2.2.2.1 l hl]
    have he : (nI (cv l) &&& f_elementSet) &&& nI x = nI ((cv l &&& EL) &&& x) := by rw [F.2.2.2.1, nx_and, nx_and]
    have hcl := xs_cv E hl
    by_cases e : (cv l &&& EL) &&& x = 0
    · refine br_t (by rw [he]; exact (ib_0 (Nat.lt_trans (ib_and_lt (ib_and_lt hcl)) (by omega))).mpr e) ⟨vp_in_nI (by omega) (by omega), nm_r (ib_or _ _) ?_⟩
      have hu' := mk_un_take hl hb hu (E.2.2.2.1 l hl)
      refine xs_ext60 E F hl hP hu' hG hU hs (Or.inr ⟨rfl, hb⟩) (fun L ts pa we sh le tn tsh tl a1 a2 a3 a4 a5 => ?_) (fun L ts pa we sh le tn tsh tl a1 a2 a3 => ?_)
      · exact hT _ L ts pa we sh le tn tsh tl a1 a2 a3 a4 hu' (mk_once_take E.2.2.1 hl hu (E.2.2.2.1 l hl) E.2.2.2.2.2.1 e ho) a5
      · exact hF _ L ts pa we sh le tn tsh tl a1 a2 (fun j hj => pk_un hj) a3
    · refine br_f (fun q => e ((ib_0 (Nat.lt_trans (ib_and_lt (ib_and_lt hcl)) (by omega))).mp (he ▸ q))) ?_
      refine hF a_covered L0 _ _ _ _ _ _ _ _ hU ⟨[], rfl⟩ (fun _ _ => rfl) (fun m hm' hadm => ?_)
      exact mk_no_take hl hm' hb hu (E.2.2.2.1 l hl) E.2.2.2.2.2.1 e hadm.1
end XS
end
section
/-! the component's search: its loop -/
def xs_I (A N : Nat) (B : Nat → Nat → Nat) (cd : Nat → Nat) (tm : Nat → ch_C) (c : Nat → Int) (V : Nat → Prop) (nt : Nat → ch_C) (sy nc : Nat → Nat) (fr l P cc : Nat) (L : List (Nat × Nat)) (Ls : Nat → List (Nat × Nat)) (ch co tk : Nat → Int32) : Prop :=
  l < N ∧ P < 2 ^ N ∧ cc ≤ 2 ∧ ch l + 1 = nI cc ∧ (∀ j, l < j → j < N → (ch j = 0 ∧ P.testBit j = false) ∨ (ch j = 1 ∧ P.testBit j = true)) ∧
  ((∃ M, L = M ++ Ls l) ∧ (∀ j, l ≤ j → j + 1 < N → ∃ M, Ls j = M ++ Ls (j + 1)) ∧ ∀ j, l ≤ j → j < N → tk j = nI (Ls j).length ∧ un_G V sy nc (Ls j) ∧ ∀ s, un_sol nt s (Ls j) ↔ mk_slv A N B cd tm (mk_hb (j + 1) P) s) ∧
  (∀ j, l < j → j ≤ N → ∃ x, co j = nI x ∧ mk_un A N B P j x) ∧ mk_once A N B cd P (l + 1) ∧
  ∀ m, fr ≤ m → m < mk_hb (l + 1) P + cc * 2 ^ l → ¬ mk_adm A N B cd tm c m
section XL
variable {A N : Nat} {B : Nat → Nat → Nat} {cd : Nat → Nat} {tm : Nat → ch_C} {c : Nat → Int} {V : Nat → Prop} {nt : Nat → ch_C} {sy nc : Nat → Nat} {fr l P cc : Nat} {L : List (Nat × Nat)} {Ls : Nat → List (Nat × Nat)} {ch co tk : Nat → Int32}
theorem xs_Pn (hP : P < 2 ^ N) (hl : l < N) (hc : cc ≤ 1) : mk_hb (l + 1) P + cc * 2 ^ l < 2 ^ N := by
  have h1 := hb_room hP (show l + 1 ≤ N by omega)
  have h2 := Nat.two_pow_pos l
  rw [Nat.pow_succ] at h1
  rcases (by omega : cc = 0 ∨ cc = 1) with e | e
  · subst e; omega
  · subst e; omega
/-- a branch led nowhere -/
theorem xs_adv (I : xs_I A N B cd tm c V nt sy nc fr l P cc L Ls ch co tk) (hc : cc ≤ 1) {L' : List (Nat × Nat)} {co' : Nat → Int32} (hL : ∃ M, L' = M ++ Ls l) (hco : ∀ j, j ≠ l → co' j = co j) (hno : ∀ m, fr ≤ m → mk_hb (l + 1) P + cc * 2 ^ l ≤ m → m < mk_hb (l + 1) P + cc * 2 ^ l + 2 ^ l → ¬ mk_adm A N B cd tm c m) :
    xs_I A N B cd tm c V nt sy nc fr l (mk_hb (l + 1) P + cc * 2 ^ l) (cc + 1) L' Ls (upd ch l (nI cc)) co' tk := by
  obtain ⟨h1, h2, h3, h4, h5, h6, h7, h8, h9⟩ := I
  obtain ⟨b1, b2, b3, b4⟩ := hb_br (hb_idem (l + 1) P) hc
  have hbit : ∀ k, l < k → (mk_hb (l + 1) P + cc * 2 ^ l).testBit k = P.testBit k := by
    intro k hk
    rw [b4 k hk, mk_hb_bit, decide_eq_true (show l + 1 ≤ k by omega), Bool.true_and]
  refine ⟨h1, xs_Pn h2 h1 hc, by omega, by rw [pk_us, nI_1], fun j hj hjN => ?_, ⟨hL, h6.2.1, fun j hj hjN => ?_⟩, fun j hj hjN => ?_, ?_, fun m hm hlt => ?_⟩
  · rw [pk_un (show j ≠ l by omega), hbit j hj]; exact h5 j hj hjN
  · obtain ⟨e2, e3, e4⟩ := h6.2.2 j hj hjN
    refine ⟨e2, e3, fun s => ?_⟩
    rw [e4 s]
    have : mk_hb (j + 1) (mk_hb (l + 1) P + cc * 2 ^ l) = mk_hb (j + 1) P := by
      rw [← hb_hb (show l + 1 ≤ j + 1 by omega), b2, hb_hb (show l + 1 ≤ j + 1 by omega)]
    rw [this]
  · obtain ⟨x, e1, e2⟩ := h7 j hj hjN
    exact ⟨x, by rw [hco j (by omega)]; exact e1, mk_un_congr (fun k hk hkN => (hbit k (by omega)).symm) e2⟩
  · exact mk_once_congr (fun k hk hkN => (hbit k (by omega)).symm) h8
  · rw [b2, Nat.add_mul, Nat.one_mul] at hlt
    by_cases g : m < mk_hb (l + 1) P + cc * 2 ^ l
    · exact h9 m hm g
    · exact hno m hm (by omega) (by omega)
/-- down to the next level -/
theorem xs_down (I : xs_I A N B cd tm c V nt sy nc fr (l + 1) P cc L Ls ch co tk) (hc : cc ≤ 1) {L' : List (Nat × Nat)} {x : Nat} {tk' : Nat → Int32} (hL : ∃ M, L' = M ++ Ls (l + 1)) (htk : ∀ j, j ≠ l → tk' j = tk j) (htk' : tk' l = nI L'.length) (hG : un_G V sy nc L') (hs : ∀ s, un_sol nt s L' ↔ mk_slv A N B cd tm (mk_hb (l + 2) P + cc * 2 ^ (l + 1)) s) (hu : mk_un A N B (mk_hb (l + 2) P + cc * 2 ^ (l + 1)) (l + 1) x) (ho : mk_once A N B cd (mk_hb (l + 2) P + cc * 2 ^ (l + 1)) (l + 1)) :
    xs_I A N B cd tm c V nt sy nc fr l (mk_hb (l + 2) P + cc * 2 ^ (l + 1)) 0 L' (fun j => if j = l then L' else Ls j) (upd (upd ch (l + 1) (nI cc)) l (-1)) (upd co (l + 1) (nI x)) tk' := by
  obtain ⟨h1, h2, h3, h4, h5, h6, h7, h8, h9⟩ := I
  obtain ⟨b1, b2, b3, b4⟩ := hb_br (hb_idem (l + 1 + 1) P) hc
  have b1' : mk_hb (l + 1) (mk_hb (l + 2) P + cc * 2 ^ (l + 1)) = mk_hb (l + 2) P + cc * 2 ^ (l + 1) := b1
  have b2' : mk_hb (l + 2) (mk_hb (l + 2) P + cc * 2 ^ (l + 1)) = mk_hb (l + 2) P := b2
  have hbit : ∀ k, l + 1 < k → (mk_hb (l + 2) P + cc * 2 ^ (l + 1)).testBit k = P.testBit k := by
    intro k hk
    have := b4 k hk
    rw [show mk_hb (l + 2) P = mk_hb (l + 1 + 1) P from rfl, this, mk_hb_bit, decide_eq_true (show l + 1 + 1 ≤ k by omega), Bool.true_and]
  refine ⟨by omega, xs_Pn h2 h1 hc, by omega, ?_, fun j hj hjN => ?_, ⟨⟨[], (if_pos rfl).symm⟩, fun j hj hjN => ?_, fun j hj hjN => ?_⟩, fun j hj hjN => ?_, ?_, fun m hm hlt => ?_⟩
  · rw [pk_us]; decide
  · rw [pk_un (show j ≠ l by omega)]
    by_cases e : j = l + 1
    · subst e
      rw [pk_us]
      have b3' : (mk_hb (l + 2) P + cc * 2 ^ (l + 1)).testBit (l + 1) = decide (cc = 1) := b3
      rcases (by omega : cc = 0 ∨ cc = 1) with z | z
      · left; exact ⟨by rw [z]; rfl, by rw [b3', z]; rfl⟩
      · right; exact ⟨by rw [z]; rfl, by rw [b3', z]; rfl⟩
    · rw [pk_un e, hbit j (by omega)]; exact h5 j (by omega) hjN
  · by_cases e : j = l
    · subst e
      simp only [if_pos rfl, if_neg (show ¬ j + 1 = j by omega)]
      exact hL
    · simp only [if_neg e, if_neg (show ¬ j + 1 = l by omega)]
      exact h6.2.1 j (by omega) hjN
  · by_cases e : j = l
    · subst e
      have e0 : (if j = j then L' else Ls j) = L' := if_pos rfl
      refine ⟨by show tk' j = nI (if j = j then L' else Ls j).length; rw [e0]; exact htk', by show un_G V sy nc (if j = j then L' else Ls j); rw [e0]; exact hG, fun s => ?_⟩
      show un_sol nt s (if j = j then L' else Ls j) ↔ _
      rw [e0, hs s, b1']
    · simp only [if_neg e]
      obtain ⟨e2, e3, e4⟩ := h6.2.2 j (by omega) hjN
      refine ⟨by rw [htk j e]; exact e2, e3, fun s => ?_⟩
      rw [e4 s]
      have : mk_hb (j + 1) (mk_hb (l + 2) P + cc * 2 ^ (l + 1)) = mk_hb (j + 1) P := by
        rw [← hb_hb (show l + 2 ≤ j + 1 by omega), b2', hb_hb (show l + 2 ≤ j + 1 by omega)]
      rw [this]
  · by_cases e : j = l + 1
    · subst e
      exact ⟨x, pk_us, hu⟩
    · obtain ⟨y, e1, e2⟩ := h7 j (by omega) hjN
      exact ⟨y, by rw [pk_un e]; exact e1, mk_un_congr (fun k hk hkN => (hbit k (by omega)).symm) e2⟩
  · exact ho
  · rw [b1', Nat.zero_mul, Nat.add_zero] at hlt
    exact h9 m hm hlt
/-- up again -/
theorem xs_pop (I : xs_I A N B cd tm c V nt sy nc fr l P 2 L Ls ch co tk) (hl : l + 1 < N) (v : Int32) :
    xs_I A N B cd tm c V nt sy nc fr (l + 1) (mk_hb (l + 1) P) ((if P.testBit (l + 1) = true then 1 else 0) + 1) (Ls l) Ls (upd ch l v) co tk := by
  obtain ⟨h1, h2, h3, h4, h5, h6, h7, h8, h9⟩ := I
  have hbit : ∀ k, l < k → (mk_hb (l + 1) P).testBit k = P.testBit k := by
    intro k hk
    rw [mk_hb_bit, decide_eq_true (show l + 1 ≤ k by omega), Bool.true_and]
  have hle := hb_le (l + 1) P
  refine ⟨hl, by omega, by split <;> omega, ?_, fun j hj hjN => ?_, ⟨h6.2.1 l (Nat.le_refl _) hl, fun j hj hjN => h6.2.1 j (by omega) hjN, fun j hj hjN => ?_⟩, fun j hj hjN => ?_, ?_, fun m hm hlt => ?_⟩
  · rw [pk_un (show l + 1 ≠ l by omega)]
    rcases h5 (l + 1) (by omega) hl with ⟨e1, e2⟩ | ⟨e1, e2⟩
    · rw [e1, e2]; rfl
    · rw [e1, e2]; rfl
  · rw [pk_un (show j ≠ l by omega), hbit j (by omega)]; exact h5 j (by omega) hjN
  · obtain ⟨e2, e3, e4⟩ := h6.2.2 j (by omega) hjN
    refine ⟨e2, e3, fun s => ?_⟩
    rw [e4 s, hb_hb (show l + 1 ≤ j + 1 by omega)]
  · obtain ⟨x, e1, e2⟩ := h7 j (by omega) hjN
    exact ⟨x, e1, mk_un_congr (fun k hk hkN => (hbit k (by omega)).symm) e2⟩
  · refine mk_once_congr (fun k hk hkN => (hbit k (by omega)).symm) (fun a ha hc k k' q1 q2 q3 q4 q5 => h8 a ha hc k k' (by omega) q2 q3 q4 q5)
  · apply h9 m hm
    rw [hb_hb (show l + 1 ≤ l + 1 + 1 by omega)] at hlt
    have e := hb_s (l + 1) P
    rw [Nat.add_mul, Nat.one_mul, Nat.pow_succ] at hlt
    rw [e, Nat.pow_succ]
    by_cases g : P.testBit (l + 1) = true
    · rw [if_pos g] at hlt ⊢; rw [Nat.one_mul] at hlt; omega
    · rw [if_neg g] at hlt ⊢; rw [Nat.zero_mul] at hlt; omega
theorem xs_top (I : xs_I A N B cd tm c V nt sy nc fr l P 2 L Ls ch co tk) (hl : l + 1 = N) : ∀ m, fr ≤ m → m < 2 ^ N → ¬ mk_adm A N B cd tm c m := by
  obtain ⟨h1, h2, h3, h4, h5, h6, h7, h8, h9⟩ := I
  intro m hm hlt
  apply h9 m hm
  subst hl
  rw [hb_top h2, Nat.zero_add, Nat.mul_comm, ← Nat.pow_succ]
  exact hlt
end XL
section XM
variable {f_bags f_elems f_maxBasis f_maxWord f_stage f_currentMask f_pendingWord f_pendingLength f_atoms f_boxSize f_liveSet f_elementSet f_frontierEnd f_basisSize f_knownCount f_trailSize : Int32} {a_atomCode a_atomWord a_leftTimes a_rightTimes a_coefficient a_fieldCap a_fieldShift a_seen a_frontierCode a_frontierDefect a_basisCode a_cover a_choice a_covered a_trailMark a_nodeSymbol a_nodeChild a_atomNode a_parent a_weight a_shape a_least a_trailNode a_trailShape a_trailLeast a_thingBase : Nat → Int32} {a_thingWord : Nat → Int64}
variable {A N : Nat} {B : Nat → Nat → Nat} {cd : Nat → Nat} {tm : Nat → ch_C} {c : Nat → Int} {V : Nat → Prop} {nt : Nat → ch_C} {sy nc an cv : Nat → Nat} {LV EL : Nat}
/-- what a search leaves behind if it finds a mask, and if not -/
def xs_S (A N : Nat) (B : Nat → Nat → Nat) (cd : Nat → Nat) (tm : Nat → ch_C) (c : Nat → Int) (V : Nat → Prop) (nt : Nat → ch_C) (sy nc : Nat → Nat) (fr m : Nat) (L : List (Nat × Nat)) : Prop :=
  un_G V sy nc L ∧ (∀ s, un_sol nt s L ↔ mk_slv A N B cd tm m s) ∧ fr ≤ m ∧ m < 2 ^ N ∧ mk_adm A N B cd tm c m ∧ ∀ m', fr ≤ m' → m' < m → ¬ mk_adm A N B cd tm c m'
def xs_No (A N : Nat) (B : Nat → Nat → Nat) (cd : Nat → Nat) (tm : Nat → ch_C) (c : Nat → Int) (fr : Nat) : Prop := ∀ m', fr ≤ m' → m' < 2 ^ N → ¬ mk_adm A N B cd tm c m'
theorem xs_loop (E : xs_E A N B cd tm c V nt sy nc an cv LV EL) (F : xs_F A N cd V sy nc an cv LV EL f_atoms f_basisSize f_liveSet f_elementSet a_cover a_nodeSymbol a_nodeChild a_atomNode) {fr : Nat} (hfr : fr < 2 ^ 31) {post : Int32 → SX → Prop}
    (hS : ∀ m L ts pa we sh le tn tsh tl ch co tk, xu_U L ts pa sh le tn tsh tl → xs_S A N B cd tm c V nt sy nc fr m L → post (nI m) (f_bags, f_elems, f_maxBasis, f_maxWord, f_stage, f_currentMask, f_pendingWord, f_pendingLength, f_atoms, f_boxSize, f_liveSet, f_elementSet, f_frontierEnd, f_basisSize, f_knownCount, ts, a_atomCode, a_atomWord, a_leftTimes, a_rightTimes, a_coefficient, a_fieldCap, a_fieldShift, a_seen, a_frontierCode, a_frontierDefect, a_basisCode, a_cover, ch, co, tk, a_nodeSymbol, a_nodeChild, a_atomNode, pa, we, sh, le, tn, tsh, tl, a_thingBase, a_thingWord))
    (hN : ∀ L ts pa we sh le tn tsh tl ch co tk, xu_U L ts pa sh le tn tsh tl → xs_No A N B cd tm c fr → post (-6) (f_bags, f_elems, f_maxBasis, f_maxWord, f_stage, f_currentMask, f_pendingWord, f_pendingLength, f_atoms, f_boxSize, f_liveSet, f_elementSet, f_frontierEnd, f_basisSize, f_knownCount, ts, a_atomCode, a_atomWord, a_leftTimes, a_rightTimes, a_coefficient, a_fieldCap, a_fieldShift, a_seen, a_frontierCode, a_frontierDefect, a_basisCode, a_cover, ch, co, tk, a_nodeSymbol, a_nodeChild, a_atomNode, pa, we, sh, le, tn, tsh, tl, a_thingBase, a_thingWord)) :
    ∀ n l P cc st L Ls ts pa we sh le tn tsh tl ch co tk, xs_I A N B cd tm c V nt sy nc fr l P cc L Ls ch co tk → xu_U L ts pa sh le tn tsh tl → hb_own l cc + hb_dd N P (N - 1 - l) < n → st + (hb_own l cc + hb_dd N P (N - 1 - l)) ≤ 16000 →
      wX_search_66 post (nI fr) n (nI P) (nI l) (nI st) f_bags f_elems f_maxBasis f_maxWord f_stage f_currentMask f_pendingWord f_pendingLength f_atoms f_boxSize f_liveSet f_elementSet f_frontierEnd f_basisSize f_knownCount ts a_atomCode a_atomWord a_leftTimes a_rightTimes a_coefficient a_fieldCap a_fieldShift a_seen a_frontierCode a_frontierDefect a_basisCode a_cover ch co tk a_nodeSymbol a_nodeChild a_atomNode pa we sh le tn tsh tl a_thingBase a_thingWord := by
  intro n
  induction n with
  | zero => intro l P cc st L Ls ts pa we sh le tn tsh tl ch co tk I hU hn hst; omega
  | succ n ih =>
    intro l P cc st L Ls ts pa we sh le tn tsh tl ch co tk I hU hn hst
    have hN12 := E.2.1
    have I' := I
    obtain ⟨h1, h2, h3, h4, h5, h6, h7, h8, h9⟩ := I'
    have hp12 : 2 ^ N ≤ 2 ^ 12 := Nat.pow_le_pow_right (by omega) hN12
    have hpl : 2 ^ l ≤ 2 ^ 12 := Nat.pow_le_pow_right (by omega) (by omega)
    obtain ⟨⟨M, hM⟩, h62, h63⟩ := h6
    obtain ⟨k1, k2, k3⟩ := h63 l (Nat.le_refl _) h1
    have il : vp_in (nI l) 12 := vp_in_nI (by omega) (by omega)
    unfold wX_search_66
    refine pk_le 16384 st (fun g => absurd g (by omega)) (fun _ => pk_le N l (fun g => absurd g (by omega)) (fun _ => nm_r (ib_shl (show l < 31 by omega)) ⟨il, ?_⟩) F.2.1)
    rw [nI_clamp (show l < 2 ^ 31 by omega), k1]
    refine xu_undo hU M (Ls l) hM ?_
    intro pa' we' sh' le' hU'
    refine nm_r (ib_clear (show l < 13 by omega)) ⟨il, il, nm_r (e' := upd ch l (nI cc)) (by rw [h4]) ⟨il, ?_⟩⟩
    rw [pk_us]
    refine pk_le cc 1 (fun hcc => ⟨il, ?_⟩) (fun hcc => ?_)
    · have hPn := xs_Pn h2 h1 hcc
      obtain ⟨b1, b2, b3, b4⟩ := hb_br (hb_idem (l + 1) P) hcc
      have hdd : hb_dd N (mk_hb (l + 1) P + cc * 2 ^ l) (N - 1 - l) = hb_dd N P (N - 1 - l) := hb_dd_congr (N - 1 - l) (fun k hk => by
        rw [b4 k (by omega), mk_hb_bit, decide_eq_true (show l + 1 ≤ k by omega), Bool.true_and]) (by omega)
      have hadv := hb_own_adv (l := l) hcc
      have key : ∀ Pn, Pn = mk_hb (l + 1) P + cc * 2 ^ l → wX_search_146 post (wX_search_66 post (nI fr) n) (nI fr) (nI Pn) (nI l) (nI st) (nI (2 ^ l)) f_bags f_elems f_maxBasis f_maxWord f_stage f_currentMask f_pendingWord f_pendingLength f_atoms f_boxSize f_liveSet f_elementSet f_frontierEnd f_basisSize f_knownCount (nI (Ls l).length) a_atomCode a_atomWord a_leftTimes a_rightTimes a_coefficient a_fieldCap a_fieldShift a_seen a_frontierCode a_frontierDefect a_basisCode a_cover (upd ch l (nI cc)) co tk a_nodeSymbol a_nodeChild a_atomNode pa' we' sh' le' tn tsh tl a_thingBase a_thingWord := by
        intro Pn hPe
        subst hPe
        unfold wX_search_146
        rw [ib_s1 (Nat.two_pow_pos l), ib_or, hb_or b1]
        have hpos := Nat.two_pow_pos l
        refine pk_lt (mk_hb (l + 1) P + cc * 2 ^ l + (2 ^ l - 1)) fr (fun g => nm_r (nI_1 st) ?_) (fun g => ?_)
        · refine ih l _ (cc + 1) (st + 1) (Ls l) Ls _ _ _ _ _ _ _ _ _ _ _ (xs_adv I hcc ⟨[], rfl⟩ (fun _ _ => rfl) (fun m hm _ hge => ?_)) hU' (by rw [hdd]; omega) (by rw [hdd]; omega)
          exfalso
          omega
        · obtain ⟨x, x1, x2⟩ := h7 (l + 1) (by omega) (by omega)
          have hbit : ∀ k, l < k → (mk_hb (l + 1) P + cc * 2 ^ l).testBit k = P.testBit k := by
            intro k hk
            rw [b4 k hk, mk_hb_bit, decide_eq_true (show l + 1 ≤ k by omega), Bool.true_and]
          refine xs_extend E F h1 b1 ?_ x1 (mk_un_congr (fun k hk _ => (hbit k (by omega)).symm) x2) (mk_once_congr (fun k hk _ => (hbit k (by omega)).symm) h8) k2 hU' (fun s => by rw [k3 s, b2]) ?_ ?_
          · rw [pk_us, b3]
            rcases (by omega : cc = 0 ∨ cc = 1) with z | z
            · left; rw [z]; exact ⟨rfl, rfl⟩
            · right; rw [z]; exact ⟨rfl, rfl⟩
          · intro x' L' ts' pa2 we2 sh2 le2 tn2 tsh2 tl2 hU2 hM2 hG2 hs2 hu2 ho2 hrc2
            refine br_f (by decide) ?_
            rcases Nat.eq_zero_or_pos l with z | z
            · subst z
              refine br_t rfl (hS _ L' _ _ _ _ _ _ _ _ _ _ _ hU2 ⟨hG2, hs2, ?_, hPn, ⟨mk_full E.2.2.1 hu2 ?_ ho2, ?_⟩, ?_⟩)
              · have : 2 ^ 0 = 1 := rfl
                omega
              · have hrc3 : x' = LV := hrc2
                rw [hrc3]; exact E.2.2.2.2.1
              · obtain ⟨T, t1, t2, t3⟩ := un_T E.2.2.2.2.2.2.1 hG2
                exact ⟨T, (hs2 T).mp ((t2 T).mp (ch_sv_self t1))⟩
              · exact h9
            · obtain ⟨l, rfl⟩ : ∃ i, l = i + 1 := ⟨l - 1, by omega⟩
              have hd := hb_own_down (l := l) hcc
              have il' : vp_in (nI l) 12 := vp_in_nI (by omega) (by omega)
              refine br_f (fun q => absurd ((ib_0 (by omega)).mp q) (by omega)) (nm_r (pk_m1 l) ⟨il', nm_r (e' := upd (upd ch (l + 1) (nI cc)) l (-1)) (by rw [nI_clamp (by omega)]) ⟨il', nm_r (e' := upd tk l ts') (by rw [nI_clamp (by omega)]) (nm_r (nI_1 st) ?_)⟩⟩)
              have hdd2 : hb_dd N (mk_hb (l + 1 + 1) P + cc * 2 ^ (l + 1)) (N - 1 - l) = hb_dd N P (N - 1 - (l + 1)) + hb_own (l + 1) (cc + 1) := by
                rw [show N - 1 - l = N - 1 - (l + 1) + 1 from by omega]
                show hb_dd N _ (N - 1 - (l + 1)) + hb_own (N - 1 - (N - 1 - (l + 1))) _ = _
                rw [hdd, show N - 1 - (N - 1 - (l + 1)) = l + 1 from by omega, b3]
                rcases (by omega : cc = 0 ∨ cc = 1) with z | z
                · rw [z]; rfl
                · rw [z]; rfl
              exact ih l _ 0 (st + 1) L' _ _ _ _ _ _ _ _ _ _ _ _ (xs_down I hcc hM2 (fun j hj => pk_un hj) (by rw [pk_us]; exact hU2.2.1) hG2 hs2 hu2 ho2) hU2 (by rw [hdd2]; omega) (by rw [hdd2]; omega)
          · intro co' L' ts' pa2 we2 sh2 le2 tn2 tsh2 tl2 hU2 hM2 hco hno
            exact br_t rfl (nm_r (nI_1 st) (ih l _ (cc + 1) (st + 1) L' Ls _ _ _ _ _ _ _ _ _ _ _ (xs_adv I hcc hM2 hco (fun m _ g1 g2 => hno m (fun k hk _ => hb_agree b1 g1 g2 hk))) hU2 (by rw [hdd]; omega) (by rw [hdd]; omega)))
      refine pk_eq cc 1 (fun h => nm_r (e' := nI (mk_hb (l + 1) P + cc * 2 ^ l)) ?_ (key _ rfl)) (fun h => ?_)
      · rw [ib_or, hb_or1 (hb_idem (l + 1) P), h, Nat.one_mul]
      · have z : cc = 0 := by omega
        have := key (mk_hb (l + 1) P) (by simp [z])
        exact this
    · have z : cc = 2 := by omega
      subst z
      have ho2 := hb_own2 l
      refine nm_r (nI_1 l) (nm_r (nI_1 st) ?_)
      by_cases hl : l + 1 < N
      · have hdd2 : hb_dd N P (N - 1 - l) = hb_dd N (mk_hb (l + 1) P) (N - 1 - (l + 1)) + hb_own (l + 1) ((if P.testBit (l + 1) = true then 1 else 0) + 1) := by
          rw [show N - 1 - l = N - 1 - (l + 1) + 1 from by omega]
          show hb_dd N P (N - 1 - (l + 1)) + hb_own (N - 1 - (N - 1 - (l + 1))) _ = _
          rw [show N - 1 - (N - 1 - (l + 1)) = l + 1 from by omega, hb_dd_congr (ch := P) (ch' := mk_hb (l + 1) P) (N - 1 - (l + 1)) (fun k hk => by
            rw [mk_hb_bit, decide_eq_true (show l + 1 ≤ k by omega), Bool.true_and]) (by omega)]
        exact ih (l + 1) _ _ (st + 1) (Ls l) Ls _ _ _ _ _ _ _ _ _ _ _ (xs_pop I hl (nI 2)) hU' (by omega) (by omega)
      · obtain ⟨n, rfl⟩ : ∃ i, n = i + 1 := ⟨n - 1, by omega⟩
        unfold wX_search_66
        refine pk_le 16384 (st + 1) (fun g => absurd g (by omega)) (fun _ => pk_le N (l + 1) (fun _ => ?_) (fun g => absurd g (by omega)) F.2.1)
        exact hN (Ls l) _ _ _ _ _ _ _ _ _ _ _ hU' (xs_top I (by omega))
end XM
end
section
/-! the component's search as a whole, and the count of masks -/
noncomputable def mk_dec (A N : Nat) (B : Nat → Nat → Nat) (cd : Nat → Nat) (tm : Nat → ch_C) (c : Nat → Int) (m : Nat) : Bool := @decide (mk_adm A N B cd tm c m) (Classical.propDecidable _)
noncomputable def mk_cnt (A N : Nat) (B : Nat → Nat → Nat) (cd : Nat → Nat) (tm : Nat → ch_C) (c : Nat → Int) (n : Nat) : Nat := ac_cn (mk_dec A N B cd tm c) n
section XC
variable {f_bags f_elems f_maxBasis f_maxWord f_stage f_currentMask f_pendingWord f_pendingLength f_atoms f_boxSize f_liveSet f_elementSet f_frontierEnd f_basisSize f_knownCount f_trailSize : Int32} {a_atomCode a_atomWord a_leftTimes a_rightTimes a_coefficient a_fieldCap a_fieldShift a_seen a_frontierCode a_frontierDefect a_basisCode a_cover a_choice a_covered a_trailMark a_nodeSymbol a_nodeChild a_atomNode a_parent a_weight a_shape a_least a_trailNode a_trailShape a_trailLeast a_thingBase : Nat → Int32} {a_thingWord : Nat → Int64}
variable {A N : Nat} {B : Nat → Nat → Nat} {cd : Nat → Nat} {tm : Nat → ch_C} {c : Nat → Int} {V : Nat → Prop} {nt : Nat → ch_C} {sy nc an cv : Nat → Nat} {LV EL : Nat}
theorem mk_dec_t {m : Nat} (h : mk_adm A N B cd tm c m) : mk_dec A N B cd tm c m = true := @decide_eq_true _ (Classical.propDecidable _) h
theorem mk_dec_f {m : Nat} (h : ¬ mk_adm A N B cd tm c m) : mk_dec A N B cd tm c m = false := @decide_eq_false _ (Classical.propDecidable _) h
theorem mk_cnt_gap {n d : Nat} (h : ∀ m, n ≤ m → m < n + d → ¬ mk_adm A N B cd tm c m) : mk_cnt A N B cd tm c (n + d) = mk_cnt A N B cd tm c n := by
  induction d with
  | zero => rfl
  | succ d ih =>
    have h1 := ih (fun m h1 h2 => h m h1 (by omega))
    show ac_cn (mk_dec A N B cd tm c) (n + d) + (if mk_dec A N B cd tm c (n + d) = true then 1 else 0) = _
    rw [mk_dec_f (h (n + d) (by omega) (by omega)), if_neg Bool.false_ne_true]
    exact h1
theorem mk_cnt_s {n : Nat} (h : mk_adm A N B cd tm c n) : mk_cnt A N B cd tm c (n + 1) = mk_cnt A N B cd tm c n + 1 := by
  show ac_cn (mk_dec A N B cd tm c) n + (if mk_dec A N B cd tm c n = true then 1 else 0) = _
  rw [mk_dec_t h, if_pos rfl]
  rfl
theorem mk_cnt_n {n : Nat} (h : ¬ mk_adm A N B cd tm c n) : mk_cnt A N B cd tm c (n + 1) = mk_cnt A N B cd tm c n := by
  show ac_cn (mk_dec A N B cd tm c) n + (if mk_dec A N B cd tm c n = true then 1 else 0) = _
  rw [mk_dec_f h, if_neg Bool.false_ne_true]
  rfl
theorem xs_search (E : xs_E A N B cd tm c V nt sy nc an cv LV EL) (F : xs_F A N cd V sy nc an cv LV EL f_atoms f_basisSize f_liveSet f_elementSet a_cover a_nodeSymbol a_nodeChild a_atomNode) {L0 : List (Nat × Nat)} (hU : xu_U L0 f_trailSize a_parent a_shape a_least a_trailNode a_trailShape a_trailLeast) {fr : Nat} (hfr : fr < 2 ^ 31) {post : Int32 → SX → Prop}
    (hS : ∀ m L ts pa we sh le tn tsh tl ch co tk, xu_U L ts pa sh le tn tsh tl → xs_S A N B cd tm c V nt sy nc fr m L → post (nI m) (f_bags, f_elems, f_maxBasis, f_maxWord, f_stage, f_currentMask, f_pendingWord, f_pendingLength, f_atoms, f_boxSize, f_liveSet, f_elementSet, f_frontierEnd, f_basisSize, f_knownCount, ts, a_atomCode, a_atomWord, a_leftTimes, a_rightTimes, a_coefficient, a_fieldCap, a_fieldShift, a_seen, a_frontierCode, a_frontierDefect, a_basisCode, a_cover, ch, co, tk, a_nodeSymbol, a_nodeChild, a_atomNode, pa, we, sh, le, tn, tsh, tl, a_thingBase, a_thingWord))
    (hN : ∀ L ts pa we sh le tn tsh tl ch co tk, xu_U L ts pa sh le tn tsh tl → xs_No A N B cd tm c fr → post (-6) (f_bags, f_elems, f_maxBasis, f_maxWord, f_stage, f_currentMask, f_pendingWord, f_pendingLength, f_atoms, f_boxSize, f_liveSet, f_elementSet, f_frontierEnd, f_basisSize, f_knownCount, ts, a_atomCode, a_atomWord, a_leftTimes, a_rightTimes, a_coefficient, a_fieldCap, a_fieldShift, a_seen, a_frontierCode, a_frontierDefect, a_basisCode, a_cover, ch, co, tk, a_nodeSymbol, a_nodeChild, a_atomNode, pa, we, sh, le, tn, tsh, tl, a_thingBase, a_thingWord)) :
    wpX_search post (f_bags, f_elems, f_maxBasis, f_maxWord, f_stage, f_currentMask, f_pendingWord, f_pendingLength, f_atoms, f_boxSize, f_liveSet, f_elementSet, f_frontierEnd, f_basisSize, f_knownCount, f_trailSize, a_atomCode, a_atomWord, a_leftTimes, a_rightTimes, a_coefficient, a_fieldCap, a_fieldShift, a_seen, a_frontierCode, a_frontierDefect, a_basisCode, a_cover, a_choice, a_covered, a_trailMark, a_nodeSymbol, a_nodeChild, a_atomNode, a_parent, a_weight, a_shape, a_least, a_trailNode, a_trailShape, a_trailLeast, a_thingBase, a_thingWord) (nI fr) := by
  have hN12 := E.2.1
  have hp12 : 2 ^ N ≤ 2 ^ 12 := Nat.pow_le_pow_right (by omega) hN12
  have hsh : (1 : Int32) <<< (f_basisSize &&& 31) = nI (2 ^ N) := by rw [F.2.1]; exact ib_shl (by omega)
  have hLV := xs_LV E
  have hG0 := un_G_nil E.2.2.2.2.2.2.1
  refine xu_undo hU L0 [] (List.append_nil L0).symm ?_
  intro pa we sh le hU'
  refine pk_lt fr (2 ^ N) (fun g => ?_) (fun g => hN [] _ _ _ _ _ _ _ _ _ _ _ hU' (fun m h1 h2 => absurd h2 (by omega))) rfl hsh
  refine pk_eq N 0 (fun hz => ?_) (fun hz => ?_) F.2.1 rfl
  · subst hz
    have hf0 : fr = 0 := by have : 2 ^ 0 = 1 := rfl; omega
    refine pk_eq LV 0 (fun hl => ?_) (fun hl => ?_) F.2.2.1 rfl
    · have nolive : ∀ a, a < A → c a = 0 := by
        intro a ha
        apply Classical.byContradiction
        intro hc
        have := (E.2.2.2.2.1 a).mpr ⟨ha, hc⟩
        rw [hl, Nat.zero_testBit] at this
        exact Bool.false_ne_true this
      exact hS 0 [] _ _ _ _ _ _ _ _ _ _ _ hU' ⟨hG0, fun s => ⟨fun _ k hk => absurd hk (Nat.not_lt_zero k), fun _ p hp => absurd hp List.not_mem_nil⟩, by omega, Nat.two_pow_pos 0, ⟨fun a ha hc => absurd (nolive a ha) hc, fun _ => ([], 0), fun k hk => absurd hk (Nat.not_lt_zero k)⟩, fun m _ h2 => absurd h2 (Nat.not_lt_zero m)⟩
    · refine hN [] _ _ _ _ _ _ _ _ _ _ _ hU' (fun m _ _ hadm => ?_)
      obtain ⟨a, ha⟩ := Nat.exists_testBit_of_ne_zero hl
      obtain ⟨h1, h2⟩ := (E.2.2.2.2.1 a).mp ha
      have := (hadm.1 a h1 h2).1
      exact absurd this (by show ¬ 1 ≤ 0; omega)
  · have i13 : vp_in f_basisSize 13 := by rw [F.2.1]; exact vp_in_nI (by omega) (by omega)
    have c13 : f_basisSize.toNatClampNeg = N := by rw [F.2.1]; exact nI_clamp (by omega)
    have i12 : vp_in (nI (N - 1)) 12 := vp_in_nI (by omega) (by omega)
    have cN : (nI (N - 1)).toNatClampNeg = N - 1 := nI_clamp (by omega)
    refine nm_r (e' := nI (N - 1)) (by rw [F.2.1]; exact ib_s1 (by omega)) ⟨i13, nm_r (e' := upd a_covered N 0) (by rw [c13]) ⟨i12, nm_r (e' := upd a_choice (N - 1) (-1)) (by rw [cN]) ⟨i12, nm_r (e' := upd a_trailMark (N - 1) (nI 0)) (by rw [cN]; rfl) ⟨20000, ?_⟩⟩⟩⟩
    have htop := hb_own_top (l := N - 1) (by omega)
    have hdd : hb_dd N 0 (N - 1 - (N - 1)) = 0 := by rw [Nat.sub_self]; rfl
    refine xs_loop E F hfr hS hN 20000 (N - 1) 0 0 0 [] (fun _ => []) _ _ _ _ _ _ _ _ _ _ _ ⟨by omega, Nat.two_pow_pos N, by omega, ?_, fun j h1 h2 => by omega, ⟨⟨[], rfl⟩, fun _ _ _ => ⟨[], rfl⟩, fun j h1 h2 => ?_⟩, fun j h1 h2 => ?_, ?_, fun m _ h2 => ?_⟩ hU' (by rw [hdd]; omega) (by rw [hdd]; omega)
    · rw [pk_us]; decide
    · have : j = N - 1 := by omega
      subst this
      refine ⟨pk_us, hG0, fun s => ⟨fun _ k _ hb => ?_, fun _ p hp => absurd hp List.not_mem_nil⟩⟩
      rw [mk_hb_bit, Nat.zero_testBit, Bool.and_false] at hb
      exact absurd hb Bool.false_ne_true
    · have : j = N := by omega
      subst this
      exact ⟨0, pk_us, mk_un_top⟩
    · rw [show N - 1 + 1 = N from by omega]; exact mk_once_top
    · rw [show N - 1 + 1 = N from by omega, hb_top (Nat.two_pow_pos N), Nat.zero_mul] at h2
      omega
theorem xs_count_l (E : xs_E A N B cd tm c V nt sy nc an cv LV EL) (F : xs_F A N cd V sy nc an cv LV EL f_atoms f_basisSize f_liveSet f_elementSet a_cover a_nodeSymbol a_nodeChild a_atomNode) {post : Int32 → SX → Prop}
    (h : ∀ L ts pa we sh le tn tsh tl ch co tk, xu_U L ts pa sh le tn tsh tl → post (nI (mk_cnt A N B cd tm c (2 ^ N))) (f_bags, f_elems, f_maxBasis, f_maxWord, f_stage, f_currentMask, f_pendingWord, f_pendingLength, f_atoms, f_boxSize, f_liveSet, f_elementSet, f_frontierEnd, f_basisSize, f_knownCount, ts, a_atomCode, a_atomWord, a_leftTimes, a_rightTimes, a_coefficient, a_fieldCap, a_fieldShift, a_seen, a_frontierCode, a_frontierDefect, a_basisCode, a_cover, ch, co, tk, a_nodeSymbol, a_nodeChild, a_atomNode, pa, we, sh, le, tn, tsh, tl, a_thingBase, a_thingWord)) :
    ∀ n fr r L ts pa we sh le tn tsh tl ch co tk, xu_U L ts pa sh le tn tsh tl → fr ≤ 2 ^ N → r ≤ fr → 2 ^ N + 1 < n + fr →
      wX_countMasks_9 post n (nI (mk_cnt A N B cd tm c fr)) (nI fr) 1 (nI r) f_bags f_elems f_maxBasis f_maxWord f_stage f_currentMask f_pendingWord f_pendingLength f_atoms f_boxSize f_liveSet f_elementSet f_frontierEnd f_basisSize f_knownCount ts a_atomCode a_atomWord a_leftTimes a_rightTimes a_coefficient a_fieldCap a_fieldShift a_seen a_frontierCode a_frontierDefect a_basisCode a_cover ch co tk a_nodeSymbol a_nodeChild a_atomNode pa we sh le tn tsh tl a_thingBase a_thingWord := by
  have hN12 := E.2.1
  have hp12 : 2 ^ N ≤ 2 ^ 12 := Nat.pow_le_pow_right (by omega) hN12
  intro n
  induction n with
  | zero => intro fr r L ts pa we sh le tn tsh tl ch co tk hU h1 h2 h3; omega
  | succ n ih =>
    intro fr r L ts pa we sh le tn tsh tl ch co tk hU h1 h2 h3
    unfold wX_countMasks_9
    refine pk_lt 4096 r (fun g => absurd g (by omega)) (fun _ => br_f (by decide) (xs_search E F hU (show fr < 2 ^ 31 by omega) ?_ ?_))
    · intro m L' ts' pa' we' sh' le' tn' tsh' tl' ch' co' tk' hU' hS
      obtain ⟨_, _, s3, s4, s5, s6⟩ := hS
      have e : mk_cnt A N B cd tm c fr + 1 = mk_cnt A N B cd tm c (m + 1) := by
        rw [mk_cnt_s s5]
        obtain ⟨d, rfl⟩ : ∃ d, m = fr + d := ⟨m - fr, by omega⟩
        rw [mk_cnt_gap s6]
      refine br_t (nI_pos' (by omega)) (nm_r (by rw [nI_1, e]) (nm_r (nI_1 m) (nm_r (nI_1 r) ?_)))
      exact ih (m + 1) (r + 1) L' _ _ _ _ _ _ _ _ _ _ _ hU' (by omega) (by omega) (by omega)
    · intro L' ts' pa' we' sh' le' tn' tsh' tl' ch' co' tk' hU' hno
      refine br_f (by decide) (nm_r (nI_1 r) ?_)
      have e : mk_cnt A N B cd tm c fr = mk_cnt A N B cd tm c (2 ^ N) := by
        obtain ⟨d, hd⟩ : ∃ d, 2 ^ N = fr + d := ⟨2 ^ N - fr, by omega⟩
        rw [hd, mk_cnt_gap (fun m h1 h2 => hno m h1 (by omega))]
      rw [e]
      obtain ⟨n, rfl⟩ : ∃ i, n = i + 1 := ⟨n - 1, by omega⟩
      unfold wX_countMasks_9
      exact br_c (fun _ => h L' _ _ _ _ _ _ _ _ _ _ _ hU') (fun _ => br_t rfl (h L' _ _ _ _ _ _ _ _ _ _ _ hU'))
theorem xs_count (E : xs_E A N B cd tm c V nt sy nc an cv LV EL) (F : xs_F A N cd V sy nc an cv LV EL f_atoms f_basisSize f_liveSet f_elementSet a_cover a_nodeSymbol a_nodeChild a_atomNode) {L0 : List (Nat × Nat)} (hU : xu_U L0 f_trailSize a_parent a_shape a_least a_trailNode a_trailShape a_trailLeast) {post : Int32 → SX → Prop}
    (h : ∀ L ts pa we sh le tn tsh tl ch co tk, xu_U L ts pa sh le tn tsh tl → post (nI (mk_cnt A N B cd tm c (2 ^ N))) (f_bags, f_elems, f_maxBasis, f_maxWord, f_stage, f_currentMask, f_pendingWord, f_pendingLength, f_atoms, f_boxSize, f_liveSet, f_elementSet, f_frontierEnd, f_basisSize, f_knownCount, ts, a_atomCode, a_atomWord, a_leftTimes, a_rightTimes, a_coefficient, a_fieldCap, a_fieldShift, a_seen, a_frontierCode, a_frontierDefect, a_basisCode, a_cover, ch, co, tk, a_nodeSymbol, a_nodeChild, a_atomNode, pa, we, sh, le, tn, tsh, tl, a_thingBase, a_thingWord)) : wpX_countMasks post (f_bags, f_elems, f_maxBasis, f_maxWord, f_stage, f_currentMask, f_pendingWord, f_pendingLength, f_atoms, f_boxSize, f_liveSet, f_elementSet, f_frontierEnd, f_basisSize, f_knownCount, f_trailSize, a_atomCode, a_atomWord, a_leftTimes, a_rightTimes, a_coefficient, a_fieldCap, a_fieldShift, a_seen, a_frontierCode, a_frontierDefect, a_basisCode, a_cover, a_choice, a_covered, a_trailMark, a_nodeSymbol, a_nodeChild, a_atomNode, a_parent, a_weight, a_shape, a_least, a_trailNode, a_trailShape, a_trailLeast, a_thingBase, a_thingWord) :=
  ⟨2 ^ N + 2, xs_count_l E F h (2 ^ N + 2) 0 0 L0 _ _ _ _ _ _ _ _ _ _ _ hU (Nat.zero_le _) (Nat.le_refl _) (by omega)⟩
end XC
end
section
/-! words packed by two bits a symbol, and the things of a mask -/
def wd_p : List Nat → Nat
  | [] => 0
  | s :: w => s + 4 * wd_p w
def wd_ok (w : List Nat) : Prop := ∀ s, s ∈ w → 0 < s ∧ s < 4
theorem wd_ok_nil : wd_ok [] := fun s hs => absurd hs List.not_mem_nil
theorem wd_lt : ∀ {w : List Nat}, wd_ok w → wd_p w < 4 ^ w.length
  | [], _ => Nat.one_pos
  | s :: w, h => by
    have h1 := wd_lt (w := w) (fun x hx => h x (List.mem_cons_of_mem _ hx))
    have h2 := h s List.mem_cons_self
    show s + 4 * wd_p w < 4 ^ (w.length + 1)
    rw [Nat.pow_succ]
    omega
theorem wd_app (s : Nat) : ∀ w : List Nat, wd_p (w ++ [s]) = wd_p w + s * 4 ^ w.length
  | [] => by show s + 4 * 0 = 0 + s * 1; omega
  | a :: w => by
    show a + 4 * wd_p (w ++ [s]) = a + 4 * wd_p w + s * 4 ^ (w.length + 1)
    rw [wd_app s w, Nat.pow_succ, Nat.mul_add, ← Nat.mul_assoc s, Nat.mul_comm 4 (s * _)]
    omega
theorem wd_digit : ∀ (p : Nat) (w : List Nat), wd_ok w → wd_p w / 4 ^ p % 4 = w.getD p 0
  | p, [], _ => by
    show 0 / 4 ^ p % 4 = _
    rw [Nat.zero_div]
    rfl
  | 0, s :: w, h => by
    have h2 := h s List.mem_cons_self
    show (s + 4 * wd_p w) / 4 ^ 0 % 4 = s
    rw [Nat.pow_zero, Nat.div_one]
    omega
  | p + 1, s :: w, h => by
    have h2 := h s List.mem_cons_self
    have ih := wd_digit p w (fun x hx => h x (List.mem_cons_of_mem _ hx))
    show (s + 4 * wd_p w) / 4 ^ (p + 1) % 4 = w.getD p 0
    rw [Nat.pow_succ, Nat.mul_comm (4 ^ p) 4, ← Nat.div_div_eq_div_mul, show (s + 4 * wd_p w) / 4 = wd_p w from by omega]
    exact ih
theorem wd_inj : ∀ {w w' : List Nat}, wd_ok w → wd_ok w' → wd_p w = wd_p w' → w = w'
  | [], [], _, _, _ => rfl
  | [], s :: w, _, h', e => by
    have h2 := h' s List.mem_cons_self
    have e' : 0 = s + 4 * wd_p w := e
    omega
  | s :: w, [], h, _, e => by
    have h2 := h s List.mem_cons_self
    have e' : s + 4 * wd_p w = 0 := e
    omega
  | s :: w, s' :: w', h, h', e => by
    have h2 := h s List.mem_cons_self
    have h3 := h' s' List.mem_cons_self
    have e' : s + 4 * wd_p w = s' + 4 * wd_p w' := e
    have e1 : s = s' := by omega
    have ih := wd_inj (w := w) (w' := w') (fun x hx => h x (List.mem_cons_of_mem _ hx)) (fun x hx => h' x (List.mem_cons_of_mem _ hx)) (by omega)
    rw [e1, ih]
theorem wd_lt48 {w : List Nat} (h : wd_ok w) (hl : w.length ≤ 24) : wd_p w < 2 ^ 48 := by
  have h1 := wd_lt h
  have h2 : 4 ^ w.length ≤ 4 ^ 24 := Nat.pow_le_pow_right (by omega) hl
  have h3 : 4 ^ 24 = 2 ^ 48 := by decide
  omega
/-- the item of vector k: any element atom of it, or its own fresh base -/
def mk_it (cd : Nat → Nat) (B : Nat → Nat → Nat) (tm : Nat → ch_C) (T : Nat → ch_C) (k : Nat) : Nat → ch_C
  | 0 => ([], 8 + k)
  | a + 1 => if cd a < 20 ∧ B k a = 1 then ch_v T (tm a) else mk_it cd B tm T k a
def mk_item (A : Nat) (cd : Nat → Nat) (B : Nat → Nat → Nat) (tm : Nat → ch_C) (T : Nat → ch_C) (m k : Nat) : Option ch_C := if m.testBit k = true then some (mk_it cd B tm T k A) else none
def mk_atom (cd : Nat → Nat) (c : Nat → Int) (tm : Nat → ch_C) (T : Nat → ch_C) (a : Nat) : Option ch_C := if 20 ≤ cd a ∧ c a ≠ 0 then none else some (ch_v T (tm a))
theorem mk_it_some {cd : Nat → Nat} {B : Nat → Nat → Nat} {tm T : Nat → ch_C} {k : Nat} : ∀ {n : Nat} {t : ch_C}, (∀ a, a < n → cd a < 20 → B k a = 1 → ch_v T (tm a) = t) → (∃ a, a < n ∧ cd a < 20 ∧ B k a = 1) → mk_it cd B tm T k n = t := by
  intro n
  induction n with
  | zero => intro t _ ⟨a, ha, _⟩; omega
  | succ n ih =>
    intro t h ⟨a, ha, h1, h2⟩
    show (if cd n < 20 ∧ B k n = 1 then ch_v T (tm n) else mk_it cd B tm T k n) = t
    by_cases g : cd n < 20 ∧ B k n = 1
    · rw [if_pos g]; exact h n (by omega) g.1 g.2
    · rw [if_neg g]
      refine ih (fun a ha => h a (by omega)) ⟨a, ?_, h1, h2⟩
      by_cases e : a = n
      · subst e; exact absurd ⟨h1, h2⟩ g
      · omega
theorem mk_it_none {cd : Nat → Nat} {B : Nat → Nat → Nat} {tm T : Nat → ch_C} {k : Nat} : ∀ {n : Nat}, (∀ a, a < n → cd a < 20 → ¬ B k a = 1) → mk_it cd B tm T k n = ([], 8 + k) := by
  intro n
  induction n with
  | zero => intro _; rfl
  | succ n ih =>
    intro h
    show (if cd n < 20 ∧ B k n = 1 then ch_v T (tm n) else mk_it cd B tm T k n) = _
    rw [if_neg (fun g => h n (by omega) g.1 g.2)]
    exact ih (fun a ha => h a (by omega))
end
section
/-! the component's things -/
def xt_is (tb : Int32) (tw : Int64) (o : Option ch_C) : Prop := (o = none ∧ tb = -1) ∨ ∃ q : ch_C, o = some q ∧ tb = nI q.2 ∧ tw = lN (wd_p q.1) ∧ q.1.length ≤ 24 ∧ wd_ok q.1 ∧ q.2 < 25
section XT
variable {f_bags f_elems f_maxBasis f_maxWord f_stage f_currentMask f_pendingWord f_pendingLength f_atoms f_boxSize f_liveSet f_elementSet f_frontierEnd f_basisSize f_knownCount f_trailSize : Int32} {a_atomCode a_atomWord a_leftTimes a_rightTimes a_coefficient a_fieldCap a_fieldShift a_seen a_frontierCode a_frontierDefect a_basisCode a_cover a_choice a_covered a_trailMark a_nodeSymbol a_nodeChild a_atomNode a_parent a_weight a_shape a_least a_trailNode a_trailShape a_trailLeast a_thingBase : Nat → Int32} {a_thingWord : Nat → Int64}
variable {V : Nat → Prop} {nt : Nat → ch_C} {sy nc : Nat → Nat}
theorem xt_wk_ok (H : un_S V nt sy nc) (hN : xj_N V sy nc a_nodeSymbol a_nodeChild) {L : List (Nat × Nat)} (hL : uf_ok V L) : ∀ n z, V z → un_fw nc L n z → wd_ok (un_wk sy nc L n z).1 := by
  intro n
  induction n with
  | zero => intro z _ h; exact False.elim h
  | succ n ih =>
    intro z hz h
    by_cases h1 : uf_sh L (uf_rt L z) < 32
    · obtain ⟨a1, b1, c1, d1⟩ := un_form H hL hz (by omega)
      obtain ⟨n1, n2, n3⟩ := hN _ a1 h1
      have i := ih _ (H.2.1 _ a1 h1).2.1 (h h1)
      rw [un_wk_s h1]
      intro s hs
      rcases List.mem_cons.mp hs with e | e
      · rw [e]; omega
      · exact i s e
    · by_cases h4 : uf_sh L (uf_rt L z) < 40
      · rw [un_wk_k h1 h4]; exact wd_ok_nil
      · rw [un_wk_v h4]; exact wd_ok_nil
theorem xt_T (H : un_S V nt sy nc) (hN : xj_N V sy nc a_nodeSymbol a_nodeChild) {L : List (Nat × Nat)} (G : un_G V sy nc L) : ∃ T : Nat → ch_C, ch_nf T ∧ (∀ s, ch_sv s T ↔ un_sol nt s L) ∧ ∀ z, V z → un_fw nc L 25 z ∧ un_wk sy nc L 25 z = ch_v T (nt z) ∧ (ch_v T (nt z)).1.length ≤ 24 ∧ wd_ok (ch_v T (nt z)).1 ∧ (ch_v T (nt z)).2 < 8 := by
  obtain ⟨T, t1, t2, n, t3⟩ := un_T H G
  have hs : un_sol nt T L := (t2 T).mp (ch_sv_self t1)
  refine ⟨T, t1, t2, fun z hz => ?_⟩
  have h25 := un_fw25 H G.1 hs hz
  have e : un_wk sy nc L 25 z = ch_v T (nt z) := by
    have e1 := un_wk_le (sy := sy) (m := n + 25) (by omega) h25
    have e2 := un_wk_le (sy := sy) (m := n + 25) (by omega) (t3 z hz).1
    rw [← e1, e2, (t3 z hz).2]
  refine ⟨h25, e, ?_, ?_, ?_⟩
  · rw [← e]; exact un_wk_len 24 z h25
  · rw [← e]; exact xt_wk_ok H hN G.1 25 z hz h25
  · rw [← e]; exact (un_wk_b H G.1 25 z hz h25).1
theorem xt_84 (H : un_S V nt sy nc) {L : List (Nat × Nat)} (hL : uf_ok V L) (hU : xu_U L f_trailSize a_parent a_shape a_least a_trailNode a_trailShape a_trailLeast) {t z : Nat} (ht : t < 24) (hz : V z) (hs : ¬ uf_sh L (uf_rt L z) < 32) {w : List Nat} {post : SX → Prop} (n : Nat) (h : post (f_bags, f_elems, f_maxBasis, f_maxWord, f_stage, f_currentMask, f_pendingWord, f_pendingLength, f_atoms, f_boxSize, f_liveSet, f_elementSet, f_frontierEnd, f_basisSize, f_knownCount, f_trailSize, a_atomCode, a_atomWord, a_leftTimes, a_rightTimes, a_coefficient, a_fieldCap, a_fieldShift, a_seen, a_frontierCode, a_frontierDefect, a_basisCode, a_cover, a_choice, a_covered, a_trailMark, a_nodeSymbol, a_nodeChild, a_atomNode, a_parent, a_weight, a_shape, a_least, a_trailNode, a_trailShape, a_trailLeast, upd a_thingBase t (nI (un_wk sy nc L (n + 1) z).2), vp_updL a_thingWord t (lN (wd_p w)))) : wX_traceThing_84 post (nI t) (lN (wd_p w)) (nI (uf_rt L z)) (xu_s (uf_sh L (uf_rt L z))) f_bags f_elems f_maxBasis f_maxWord f_stage f_currentMask f_pendingWord f_pendingLength f_atoms f_boxSize f_liveSet f_elementSet f_frontierEnd f_basisSize f_knownCount f_trailSize a_atomCode a_atomWord a_leftTimes a_rightTimes a_coefficient a_fieldCap a_fieldShift a_seen a_frontierCode a_frontierDefect a_basisCode a_cover a_choice a_covered a_trailMark a_nodeSymbol a_nodeChild a_atomNode a_parent a_weight a_shape a_least a_trailNode a_trailShape a_trailLeast a_thingBase a_thingWord := by
  have it : vp_in (nI t) 24 := vp_in_nI ht (by omega)
  have ct : (nI t).toNatClampNeg = t := nI_clamp (by omega)
  have rx4 : uf_rt L z < 40 := H.1 _ (uf_rt_V hL z hz)
  unfold wX_traceThing_84
  rw [ct]
  refine ⟨it, nm_e ?_⟩
  by_cases h4 : uf_sh L (uf_rt L z) < 40
  · rw [un_wk_k hs h4] at h
    refine br_t (xu_s_0le.mpr h4) ⟨it, nm_r (e' := upd a_thingBase t (nI (uf_sh L (uf_rt L z) - 32))) ?_ h⟩
    rw [xu_s_lt h4]
    exact congrArg (upd a_thingBase t) (pk_sub (a := uf_sh L (uf_rt L z)) (b := 32) (by omega))
  · rw [un_wk_v h4] at h
    refine br_f (fun q => h4 (xu_s_0le.mp q)) ⟨vp_in_nI rx4 (by omega), it, nm_r (e' := upd a_thingBase t (nI (uf_ls L (uf_rt L z)))) ?_ h⟩
    rw [nI_clamp (by omega), hU.2.2.2.2.1 _ rx4]
theorem xt_trace_l (H : un_S V nt sy nc) (hN : xj_N V sy nc a_nodeSymbol a_nodeChild) {L : List (Nat × Nat)} (hL : uf_ok V L) (hU : xu_U L f_trailSize a_parent a_shape a_least a_trailNode a_trailShape a_trailLeast) {t : Nat} (ht : t < 24) {w : List Nat} {b : Nat} {post : SX → Prop} (h : post (f_bags, f_elems, f_maxBasis, f_maxWord, f_stage, f_currentMask, f_pendingWord, f_pendingLength, f_atoms, f_boxSize, f_liveSet, f_elementSet, f_frontierEnd, f_basisSize, f_knownCount, f_trailSize, a_atomCode, a_atomWord, a_leftTimes, a_rightTimes, a_coefficient, a_fieldCap, a_fieldShift, a_seen, a_frontierCode, a_frontierDefect, a_basisCode, a_cover, a_choice, a_covered, a_trailMark, a_nodeSymbol, a_nodeChild, a_atomNode, a_parent, a_weight, a_shape, a_least, a_trailNode, a_trailShape, a_trailLeast, upd a_thingBase t (nI b), vp_updL a_thingWord t (lN (wd_p w)))) :
    ∀ i z w1, V z → un_fw nc L (i + 1) z → w = w1 ++ (un_wk sy nc L (i + 1) z).1 → b = (un_wk sy nc L (i + 1) z).2 → w1.length + i = 24 → wd_ok w1 → wX_traceThing_21 post (nI t) f_bags f_elems f_maxBasis f_maxWord f_stage f_currentMask f_pendingWord f_pendingLength f_atoms f_boxSize f_liveSet f_elementSet f_frontierEnd f_basisSize f_knownCount f_trailSize a_atomCode a_atomWord a_leftTimes a_rightTimes a_coefficient a_fieldCap a_fieldShift a_seen a_frontierCode a_frontierDefect a_basisCode a_cover a_choice a_covered a_trailMark a_nodeSymbol a_nodeChild a_atomNode a_parent a_weight a_shape a_least a_trailNode a_trailShape a_trailLeast a_thingBase a_thingWord (i + 1) (lN (wd_p w1)) (nI (uf_rt L z)) (xu_s (uf_sh L (uf_rt L z))) (nI w1.length) := by
  intro i
  induction i with
  | zero =>
    intro z w1 hz hf hw hb hl ho
    have hs : ¬ uf_sh L (uf_rt L z) < 32 := fun g => hf g
    have hw1 : w = w1 := by
      rw [hw]
      by_cases h4 : uf_sh L (uf_rt L z) < 40
      · rw [un_wk_k hs h4, List.append_nil]
      · rw [un_wk_v h4, List.append_nil]
    subst hw1
    unfold wX_traceThing_21
    refine pk_le 24 w.length (fun _ => xt_84 H hL hU ht hz hs 0 (sy := sy) (nc := nc) (by rw [← hb]; exact h)) (fun g => absurd g (by omega))
  | succ i ih =>
    intro z w1 hz hf hw hb hl ho
    have rx4 : uf_rt L z < 40 := H.1 _ (uf_rt_V hL z hz)
    unfold wX_traceThing_21
    refine pk_le 24 w1.length (fun g => absurd g (by omega)) (fun _ => ?_)
    by_cases h3 : uf_sh L (uf_rt L z) < 32
    · have h4 : uf_sh L (uf_rt L z) < 40 := by omega
      refine br_f (fun q => (xu_s_neg.mp q) h4) ?_
      obtain ⟨a1, b1, c1, d1⟩ := un_form H hL hz (by omega)
      obtain ⟨n1, n2, n3⟩ := hN _ a1 h3
      have hnV := (H.2.1 _ a1 h3).2.1
      have hn4 := H.1 _ hnV
      have rn4 : uf_rt L (nc (uf_sh L (uf_rt L z))) < 40 := H.1 _ (uf_rt_V hL _ hnV)
      rw [xu_s_lt h4]
      refine pk_le 32 (uf_sh L (uf_rt L z)) (fun g => absurd g (by omega)) (fun _ => ?_)
      rw [nI_clamp (show uf_sh L (uf_rt L z) < 2 ^ 31 by omega), n1, n2]
      refine ⟨vp_in_nI h4 (by omega), nm_r (e' := lN (wd_p (w1 ++ [sy (uf_sh L (uf_rt L z))]))) ?_ ⟨vp_in_nI h4 (by omega), xu_root hU hn4 ⟨vp_in_nI rn4 (by omega), nm_r (e' := xu_s (uf_sh L (uf_rt L (nc (uf_sh L (uf_rt L z)))))) (by rw [nI_clamp (by omega)]; exact hU.2.2.2.1 _ rn4) (nm_r (nI_1 w1.length) ?_)⟩⟩⟩
      · rw [ib_2m, nI_l (by omega), wb_shl _ (by omega), wd_app]
        have h5 := wd_lt ho
        have e4 : 2 ^ (2 * w1.length) = 4 ^ w1.length := by rw [Nat.pow_mul]
        have h6 : 4 ^ w1.length ≤ 4 ^ 23 := Nat.pow_le_pow_right (by omega) (by omega)
        have h7 : 4 ^ 23 = 2 ^ 46 := by decide
        rw [← e4] at h5 h6 ⊢
        refine g_or' (k := 2 * w1.length) rfl h5 ?_
        have : sy (uf_sh L (uf_rt L z)) * 2 ^ (2 * w1.length) ≤ 3 * 2 ^ (2 * w1.length) := Nat.mul_le_mul_right _ (by omega)
        omega
      · rw [un_wk_s h3] at hw hb
        have hlen : (w1 ++ [sy (uf_sh L (uf_rt L z))]).length = w1.length + 1 := by rw [List.length_append]; rfl
        rw [← hlen]
        refine ih _ (w1 ++ [sy (uf_sh L (uf_rt L z))]) hnV (hf h3) (by rw [List.append_assoc]; exact hw) hb (by rw [hlen]; omega) (fun s hs => ?_)
        rcases List.mem_append.mp hs with e | e
        · exact ho s e
        · have := List.mem_singleton.mp e
          rw [this]; omega
    · have hw1 : w = w1 := by
        rw [hw]
        by_cases h4 : uf_sh L (uf_rt L z) < 40
        · rw [un_wk_k h3 h4, List.append_nil]
        · rw [un_wk_v h4, List.append_nil]
      subst hw1
      have fin := xt_84 H hL hU ht hz h3 (i + 1) (sy := sy) (nc := nc) (w := w) (post := post) (by rw [← hb]; exact h)
      refine br_c (fun _ => fin) (fun h0 => br_t ?_ fin)
      have h4 : uf_sh L (uf_rt L z) < 40 := by
        apply Classical.byContradiction
        intro g
        exact h0 (xu_s_neg.mpr g)
      rw [xu_s_lt h4]
      exact nI_le (a := 32) (by omega) (by omega)
theorem xt_trace (H : un_S V nt sy nc) (hN : xj_N V sy nc a_nodeSymbol a_nodeChild) {L : List (Nat × Nat)} (hL : uf_ok V L) (hU : xu_U L f_trailSize a_parent a_shape a_least a_trailNode a_trailShape a_trailLeast) {t z : Nat} (ht : t < 24) (hz : V z) (hf : un_fw nc L 25 z) {q : ch_C} (hq : un_wk sy nc L 25 z = q) {post : SX → Prop} (h : post (f_bags, f_elems, f_maxBasis, f_maxWord, f_stage, f_currentMask, f_pendingWord, f_pendingLength, f_atoms, f_boxSize, f_liveSet, f_elementSet, f_frontierEnd, f_basisSize, f_knownCount, f_trailSize, a_atomCode, a_atomWord, a_leftTimes, a_rightTimes, a_coefficient, a_fieldCap, a_fieldShift, a_seen, a_frontierCode, a_frontierDefect, a_basisCode, a_cover, a_choice, a_covered, a_trailMark, a_nodeSymbol, a_nodeChild, a_atomNode, a_parent, a_weight, a_shape, a_least, a_trailNode, a_trailShape, a_trailLeast, upd a_thingBase t (nI q.2), vp_updL a_thingWord t (lN (wd_p q.1)))) : wpX_traceThing post (f_bags, f_elems, f_maxBasis, f_maxWord, f_stage, f_currentMask, f_pendingWord, f_pendingLength, f_atoms, f_boxSize, f_liveSet, f_elementSet, f_frontierEnd, f_basisSize, f_knownCount, f_trailSize, a_atomCode, a_atomWord, a_leftTimes, a_rightTimes, a_coefficient, a_fieldCap, a_fieldShift, a_seen, a_frontierCode, a_frontierDefect, a_basisCode, a_cover, a_choice, a_covered, a_trailMark, a_nodeSymbol, a_nodeChild, a_atomNode, a_parent, a_weight, a_shape, a_least, a_trailNode, a_trailShape, a_trailLeast, a_thingBase, a_thingWord) (nI t) (nI z) := by
  have rx4 : uf_rt L z < 40 := H.1 _ (uf_rt_V hL z hz)
  refine xu_root hU (H.1 z hz) ⟨vp_in_nI rx4 (by omega), nm_r (e' := xu_s (uf_sh L (uf_rt L z))) (by rw [nI_clamp (by omega)]; exact hU.2.2.2.1 _ rx4) ⟨25, ?_⟩⟩
  exact xt_trace_l H hN hL hU ht h 24 z [] hz hf (by rw [hq]; rfl) (by rw [hq]) rfl wd_ok_nil
theorem xt_low_l {set : Nat} (hs : set < 2 ^ 8) {post : Int32 → Prop} (h : ∀ a, a < 8 → set.testBit a = true → post (nI a)) (hex : ∃ a, a < 8 ∧ set.testBit a = true) : ∀ n a, 8 < n + a → (∀ b, b < a → set.testBit b = false) → wX_lowestBit_2 post (nI set) f_bags f_elems f_maxBasis f_maxWord f_stage f_currentMask f_pendingWord f_pendingLength f_atoms f_boxSize f_liveSet f_elementSet f_frontierEnd f_basisSize f_knownCount f_trailSize a_atomCode a_atomWord a_leftTimes a_rightTimes a_coefficient a_fieldCap a_fieldShift a_seen a_frontierCode a_frontierDefect a_basisCode a_cover a_choice a_covered a_trailMark a_nodeSymbol a_nodeChild a_atomNode a_parent a_weight a_shape a_least a_trailNode a_trailShape a_trailLeast a_thingBase a_thingWord n (nI a) := by
  intro n
  induction n with
  | zero =>
    intro a hn ha
    obtain ⟨b, hb, hb2⟩ := hex
    rw [ha b (by omega)] at hb2
    exact absurd hb2 Bool.false_ne_true
  | succ n ih =>
    intro a hn ha
    have ha8 : a < 8 := by
      apply Classical.byContradiction
      intro g
      obtain ⟨b, hb, hb2⟩ := hex
      rw [ha b (by omega)] at hb2
      exact Bool.false_ne_true hb2
    unfold wX_lowestBit_2
    refine pk_le 8 a (fun g => absurd g (by omega)) (fun _ => ?_)
    cases hb : set.testBit a with
    | false =>
      refine br_t ((ib_bit0 (by omega) (by omega)).mpr hb) (nm_r (nI_1 a) (ih (a + 1) (by omega) (fun b hb' => ?_)))
      by_cases e : b = a
      · rw [e]; exact hb
      · exact ha b (by omega)
    | true =>
      refine br_f (fun q => ?_) (h a ha8 hb)
      rw [(ib_bit0 (by omega) (by omega)).mp q] at hb
      exact Bool.false_ne_true hb
end XT
end
section
/-! the component records the things of a mask -/
def xt_R (A el : Nat) (cd : Nat → Nat) (tm : Nat → ch_C) (c : Nat → Int) (fe : Int32) (ano co ac : Nat → Int32) : Prop :=
  el ≤ 4 ∧ fe = nI el ∧ (∀ a, a < A → 20 ≤ cd a → ano a = -1 ∧ tm a = ([], cd a)) ∧ ∀ a, a < A → (co a = 0 ↔ c a = 0) ∧ ac a = nI (cd a) ∧ cd a < 25
def xt_W (V : Nat → Prop) (nt : Nat → ch_C) (sy nc : Nat → Nat) (L : List (Nat × Nat)) (T : Nat → ch_C) : Prop :=
  ∀ z, V z → un_fw nc L 25 z ∧ un_wk sy nc L 25 z = ch_v T (nt z) ∧ (ch_v T (nt z)).1.length ≤ 24 ∧ wd_ok (ch_v T (nt z)).1 ∧ (ch_v T (nt z)).2 < 8
def xt_All (A N el : Nat) (cd : Nat → Nat) (B : Nat → Nat → Nat) (tm : Nat → ch_C) (c : Nat → Int) (T : Nat → ch_C) (m : Nat) (tb : Nat → Int32) (tw : Nat → Int64) : Prop :=
  (∀ k, k < N → xt_is (tb k) (tw k) (mk_item A cd B tm T m k)) ∧ (∀ v, v < el → xt_is (tb (12 + v)) (tw (12 + v)) (some (T v))) ∧ ∀ a, a < A → xt_is (tb (16 + a)) (tw (16 + a)) (mk_atom cd c tm T a)
section XR
variable {f_bags f_elems f_maxBasis f_maxWord f_stage f_currentMask f_pendingWord f_pendingLength f_atoms f_boxSize f_liveSet f_elementSet f_frontierEnd f_basisSize f_knownCount f_trailSize : Int32} {a_atomCode a_atomWord a_leftTimes a_rightTimes a_coefficient a_fieldCap a_fieldShift a_seen a_frontierCode a_frontierDefect a_basisCode a_cover a_choice a_covered a_trailMark a_nodeSymbol a_nodeChild a_atomNode a_parent a_weight a_shape a_least a_trailNode a_trailShape a_trailLeast a_thingBase : Nat → Int32} {a_thingWord : Nat → Int64}
variable {A N el : Nat} {B : Nat → Nat → Nat} {cd : Nat → Nat} {tm : Nat → ch_C} {c : Nat → Int} {V : Nat → Prop} {nt : Nat → ch_C} {sy nc an cv : Nat → Nat} {LV EL : Nat} {L : List (Nat × Nat)} {T : Nat → ch_C} {m : Nat}
theorem xt_item (E : xs_E A N B cd tm c V nt sy nc an cv LV EL) (F : xs_F A N cd V sy nc an cv LV EL f_atoms f_basisSize f_liveSet f_elementSet a_cover a_nodeSymbol a_nodeChild a_atomNode) (hL : uf_ok V L) (hU : xu_U L f_trailSize a_parent a_shape a_least a_trailNode a_trailShape a_trailLeast) (hW : xt_W V nt sy nc L T) (hslv : mk_slv A N B cd tm m T) (hm : m < 2 ^ N) (hfm : f_currentMask = nI m) {k : Nat} (hk : k < N) {post : SX → Prop}
    (h : ∀ tb tw, (∀ j, j ≠ k → tb j = a_thingBase j ∧ tw j = a_thingWord j) → xt_is (tb k) (tw k) (mk_item A cd B tm T m k) → post (f_bags, f_elems, f_maxBasis, f_maxWord, f_stage, f_currentMask, f_pendingWord, f_pendingLength, f_atoms, f_boxSize, f_liveSet, f_elementSet, f_frontierEnd, f_basisSize, f_knownCount, f_trailSize, a_atomCode, a_atomWord, a_leftTimes, a_rightTimes, a_coefficient, a_fieldCap, a_fieldShift, a_seen, a_frontierCode, a_frontierDefect, a_basisCode, a_cover, a_choice, a_covered, a_trailMark, a_nodeSymbol, a_nodeChild, a_atomNode, a_parent, a_weight, a_shape, a_least, a_trailNode, a_trailShape, a_trailLeast, tb, tw)) : wpX_recordItem post (f_bags, f_elems, f_maxBasis, f_maxWord, f_stage, f_currentMask, f_pendingWord, f_pendingLength, f_atoms, f_boxSize, f_liveSet, f_elementSet, f_frontierEnd, f_basisSize, f_knownCount, f_trailSize, a_atomCode, a_atomWord, a_leftTimes, a_rightTimes, a_coefficient, a_fieldCap, a_fieldShift, a_seen, a_frontierCode, a_frontierDefect, a_basisCode, a_cover, a_choice, a_covered, a_trailMark, a_nodeSymbol, a_nodeChild, a_atomNode, a_parent, a_weight, a_shape, a_least, a_trailNode, a_trailShape, a_trailLeast, a_thingBase, a_thingWord) (nI k) := by
  have hN12 := E.2.1
  have hA8 := E.1
  have hp12 : 2 ^ N ≤ 2 ^ 12 := Nat.pow_le_pow_right (by omega) hN12
  have ik : vp_in (nI k) 24 := vp_in_nI (by omega) (by omega)
  have ik2 : vp_in (nI k) 12 := vp_in_nI (by omega) (by omega)
  have ck : (nI k).toNatClampNeg = k := nI_clamp (by omega)
  have hcl := xs_cv E hk
  have hx : (nI (cv k) &&& f_elementSet) = nI (cv k &&& EL) := by rw [F.2.2.2.1, nx_and]
  have hset : cv k &&& EL < 2 ^ 8 := ib_and_lt hcl
  have hmem : ∀ a, (cv k &&& EL).testBit a = true ↔ a < A ∧ cd a < 20 ∧ B k a = 1 := by
    intro a
    rw [Nat.testBit_and, Bool.and_eq_true, E.2.2.2.1 k hk a, E.2.2.2.2.2.1 a]
    constructor
    · intro ⟨⟨ha, p⟩, _, _, q⟩
      have := (E.2.2.1 k hk a ha).2.2 q
      exact ⟨ha, q, by omega⟩
    · intro ⟨ha, p, q⟩
      exact ⟨⟨ha, by omega⟩, ha, (E.2.2.1 k hk a ha).2.1 (by omega), p⟩
  unfold wpX_recordItem
  dsimp only
  rw [ck, F.2.2.2.2.1 k hk]
  refine ⟨ik, nm_e ⟨ik, nm_e ?_⟩⟩
  cases hb : m.testBit k with
  | false =>
    refine br_t (by rw [hfm]; exact (ib_bit0 (by omega) (by omega)).mpr hb) (h _ _ (fun j hj => ⟨pk_un hj, pk_uLn hj⟩) (Or.inl ⟨?_, pk_us⟩))
    unfold mk_item
    rw [hb, if_neg Bool.false_ne_true]
  | true =>
    have hitem : mk_item A cd B tm T m k = some (mk_it cd B tm T k A) := by
      unfold mk_item
      rw [hb, if_pos rfl]
    refine br_f (fun q => ?_) ⟨ik2, nm_r hx ?_⟩
    · rw [hfm, ib_bit0 (by omega) (by omega), hb] at q
      exact absurd q (by decide)
    refine pk_eq (cv k &&& EL) 0 (fun g => ⟨ik, nm_e (h _ _ (fun j hj => ⟨?_, pk_uLn hj⟩) (Or.inr ⟨([], 8 + k), ?_, ?_, ?_, Nat.zero_le _, wd_ok_nil, ?_⟩))⟩) (fun g => ?_)
    · rw [pk_un hj, pk_un hj]
    · rw [hitem, mk_it_none]
      intro a ha h1 h2
      have := (hmem a).mpr ⟨ha, h1, h2⟩
      rw [g, Nat.zero_testBit] at this
      exact Bool.false_ne_true this
    · rw [pk_us]; exact nI_add 8 k
    · rw [pk_uLs]; rfl
    · show 8 + k < 25; omega
    · have hex : ∃ a, a < 8 ∧ (cv k &&& EL).testBit a = true := by
        obtain ⟨a, ha⟩ := Nat.exists_testBit_of_ne_zero g
        have := ((hmem a).mp ha).1
        exact ⟨a, by omega, ha⟩
      refine ⟨9, xt_low_l hset (fun a ha8 hbit => ?_) hex 9 0 (by omega) (fun b hb => absurd hb (Nat.not_lt_zero b))⟩
      obtain ⟨ha, hca, hBa⟩ := (hmem a).mp hbit
      obtain ⟨p1, p2⟩ := E.2.2.2.2.2.2.2 a ha hca
      obtain ⟨w1, w2, w3, w4, w5⟩ := hW _ p1
      rw [nI_clamp (show a < 2 ^ 31 by omega), F.2.2.2.2.2.2 a ha hca]
      refine ⟨vp_in_nI ha8 (by omega), xt_trace E.2.2.2.2.2.2.1 F.2.2.2.2.2.1 hL hU (show k < 24 by omega) p1 w1 w2 (h (upd (upd a_thingBase k (-1)) k (nI (ch_v T (nt (an a))).2)) (vp_updL (vp_updL a_thingWord k 0) k (lN (wd_p (ch_v T (nt (an a))).1))) (fun j hj => ⟨?_, ?_⟩) (Or.inr ⟨ch_v T (nt (an a)), ?_, pk_us, pk_uLs, w3, w4, by omega⟩))⟩
      · rw [pk_un hj, pk_un hj]
      · rw [pk_uLn hj, pk_uLn hj]
      · rw [hitem, p2]
        congr 1
        exact mk_it_some (fun a' ha' hca' hBa' => hslv k hk hb a' a ha' ha hca' hca hBa' hBa) ⟨a, ha, hca, hBa⟩
theorem xt_rec3 (E : xs_E A N B cd tm c V nt sy nc an cv LV EL) (F : xs_F A N cd V sy nc an cv LV EL f_atoms f_basisSize f_liveSet f_elementSet a_cover a_nodeSymbol a_nodeChild a_atomNode) (R : xt_R A el cd tm c f_elems a_atomNode a_coefficient a_atomCode) (hL : uf_ok V L) (hU : xu_U L f_trailSize a_parent a_shape a_least a_trailNode a_trailShape a_trailLeast) (hW : xt_W V nt sy nc L T) {post : SX → Prop}
    (h : ∀ tb tw, xt_All A N el cd B tm c T m tb tw → post (f_bags, f_elems, f_maxBasis, f_maxWord, f_stage, f_currentMask, f_pendingWord, f_pendingLength, f_atoms, f_boxSize, f_liveSet, f_elementSet, f_frontierEnd, f_basisSize, f_knownCount, f_trailSize, a_atomCode, a_atomWord, a_leftTimes, a_rightTimes, a_coefficient, a_fieldCap, a_fieldShift, a_seen, a_frontierCode, a_frontierDefect, a_basisCode, a_cover, a_choice, a_covered, a_trailMark, a_nodeSymbol, a_nodeChild, a_atomNode, a_parent, a_weight, a_shape, a_least, a_trailNode, a_trailShape, a_trailLeast, tb, tw)) : ∀ n a tb tw, a ≤ A → A < n + a → (∀ k, k < N → xt_is (tb k) (tw k) (mk_item A cd B tm T m k)) → (∀ v, v < el → xt_is (tb (12 + v)) (tw (12 + v)) (some (T v))) → (∀ b, b < a → xt_is (tb (16 + b)) (tw (16 + b)) (mk_atom cd c tm T b)) → wX_recordThings_51 post n (nI a) f_bags f_elems f_maxBasis f_maxWord f_stage f_currentMask f_pendingWord f_pendingLength f_atoms f_boxSize f_liveSet f_elementSet f_frontierEnd f_basisSize f_knownCount f_trailSize a_atomCode a_atomWord a_leftTimes a_rightTimes a_coefficient a_fieldCap a_fieldShift a_seen a_frontierCode a_frontierDefect a_basisCode a_cover a_choice a_covered a_trailMark a_nodeSymbol a_nodeChild a_atomNode a_parent a_weight a_shape a_least a_trailNode a_trailShape a_trailLeast tb tw := by
  have hN12 := E.2.1
  have hA8 := E.1
  have hel := R.1
  intro n
  induction n with
  | zero => intro a tb tw h1 h2; omega
  | succ n ih =>
    intro a tb tw ha hn h1 h2 h3
    unfold wX_recordThings_51
    refine pk_le A a (fun g => h tb tw ⟨h1, h2, fun b hb => h3 b (by omega)⟩) (fun g => ?_) F.1 rfl
    have ia : vp_in (nI a) 8 := vp_in_nI (by omega) (by omega)
    have ia2 : vp_in (16 + nI a) 24 := by rw [show (16 : Int32) + nI a = nI (16 + a) from nI_add 16 a]; exact vp_in_nI (by omega) (by omega)
    have ca : (nI a).toNatClampNeg = a := nI_clamp (by omega)
    have ca2 : (16 + nI a).toNatClampNeg = 16 + a := by rw [show (16 : Int32) + nI a = nI (16 + a) from nI_add 16 a]; exact nI_clamp (by omega)
    have keep : ∀ (tb' : Nat → Int32) (tw' : Nat → Int64), (∀ j, j ≠ 16 + a → tb' j = tb j ∧ tw' j = tw j) → xt_is (tb' (16 + a)) (tw' (16 + a)) (mk_atom cd c tm T a) → wX_recordThings_51 post n (nI (a + 1)) f_bags f_elems f_maxBasis f_maxWord f_stage f_currentMask f_pendingWord f_pendingLength f_atoms f_boxSize f_liveSet f_elementSet f_frontierEnd f_basisSize f_knownCount f_trailSize a_atomCode a_atomWord a_leftTimes a_rightTimes a_coefficient a_fieldCap a_fieldShift a_seen a_frontierCode a_frontierDefect a_basisCode a_cover a_choice a_covered a_trailMark a_nodeSymbol a_nodeChild a_atomNode a_parent a_weight a_shape a_least a_trailNode a_trailShape a_trailLeast tb' tw' := by
      intro tb' tw' hk hx
      refine ih (a + 1) tb' tw' (by omega) (by omega) (fun k hkN => ?_) (fun v hv => ?_) (fun b hb => ?_)
      · rw [(hk k (by omega)).1, (hk k (by omega)).2]; exact h1 k hkN
      · rw [(hk (12 + v) (by omega)).1, (hk (12 + v) (by omega)).2]; exact h2 v hv
      · by_cases e : b = a
        · rw [e]; exact hx
        · rw [(hk (16 + b) (by omega)).1, (hk (16 + b) (by omega)).2]; exact h3 b (by omega)
    obtain ⟨r1, r2, r3⟩ := R.2.2.2 a g
    rw [ca, ca2, r2]
    refine ⟨ia, ?_⟩
    by_cases hbag : 20 ≤ cd a
    · obtain ⟨q1, q2⟩ := R.2.2.1 a g hbag
      refine br_t (by rw [q1]; decide) ⟨ia2, nm_e ⟨ia, ?_⟩⟩
      refine br_c (fun hc => ⟨ia, ia2, nm_e (nm_r (nI_1 a) (keep _ _ (fun j hj => ⟨pk_un hj, pk_uLn hj⟩) (Or.inr ⟨([], cd a), ?_, pk_us, pk_uLs, Nat.zero_le _, wd_ok_nil, r3⟩)))⟩) (fun hc => ⟨ia2, nm_e (nm_r (nI_1 a) (keep _ _ (fun j hj => ⟨pk_un hj, pk_uLn hj⟩) (Or.inl ⟨?_, pk_us⟩)))⟩)
      · unfold mk_atom
        rw [if_neg (fun z => z.2 (r1.mp hc)), q2, ch_v_ge (by omega)]
      · unfold mk_atom
        rw [if_pos ⟨hbag, fun z => hc (r1.mpr z)⟩]
    · obtain ⟨p1, p2⟩ := E.2.2.2.2.2.2.2 a g (by omega)
      have p4 := E.2.2.2.2.2.2.1.1 _ p1
      obtain ⟨w1, w2, w3, w4, w5⟩ := hW _ p1
      have hn := F.2.2.2.2.2.2 a g (by omega)
      refine br_f (by rw [hn]; exact nI_pos (by omega)) ⟨ia, ?_⟩
      rw [hn, show (16 : Int32) + nI a = nI (16 + a) from nI_add 16 a]
      refine xt_trace E.2.2.2.2.2.2.1 F.2.2.2.2.2.1 hL hU (show 16 + a < 24 by omega) p1 w1 w2 (nm_r (nI_1 a) (keep _ _ (fun j hj => ⟨pk_un hj, pk_uLn hj⟩) (Or.inr ⟨ch_v T (nt (an a)), ?_, pk_us, pk_uLs, w3, w4, by omega⟩)))
      unfold mk_atom
      rw [if_neg (fun z => by omega), p2]
theorem xt_rec2 (E : xs_E A N B cd tm c V nt sy nc an cv LV EL) (F : xs_F A N cd V sy nc an cv LV EL f_atoms f_basisSize f_liveSet f_elementSet a_cover a_nodeSymbol a_nodeChild a_atomNode) (R : xt_R A el cd tm c f_elems a_atomNode a_coefficient a_atomCode) (hL : uf_ok V L) (hU : xu_U L f_trailSize a_parent a_shape a_least a_trailNode a_trailShape a_trailLeast) (hW : xt_W V nt sy nc L T) {post : SX → Prop}
    (h : ∀ tb tw, xt_All A N el cd B tm c T m tb tw → post (f_bags, f_elems, f_maxBasis, f_maxWord, f_stage, f_currentMask, f_pendingWord, f_pendingLength, f_atoms, f_boxSize, f_liveSet, f_elementSet, f_frontierEnd, f_basisSize, f_knownCount, f_trailSize, a_atomCode, a_atomWord, a_leftTimes, a_rightTimes, a_coefficient, a_fieldCap, a_fieldShift, a_seen, a_frontierCode, a_frontierDefect, a_basisCode, a_cover, a_choice, a_covered, a_trailMark, a_nodeSymbol, a_nodeChild, a_atomNode, a_parent, a_weight, a_shape, a_least, a_trailNode, a_trailShape, a_trailLeast, tb, tw)) : ∀ n v tb tw, v ≤ el → el < n + v → (∀ k, k < N → xt_is (tb k) (tw k) (mk_item A cd B tm T m k)) → (∀ b, b < v → xt_is (tb (12 + b)) (tw (12 + b)) (some (T b))) → wX_recordThings_23 post n (nI v) f_bags f_elems f_maxBasis f_maxWord f_stage f_currentMask f_pendingWord f_pendingLength f_atoms f_boxSize f_liveSet f_elementSet f_frontierEnd f_basisSize f_knownCount f_trailSize a_atomCode a_atomWord a_leftTimes a_rightTimes a_coefficient a_fieldCap a_fieldShift a_seen a_frontierCode a_frontierDefect a_basisCode a_cover a_choice a_covered a_trailMark a_nodeSymbol a_nodeChild a_atomNode a_parent a_weight a_shape a_least a_trailNode a_trailShape a_trailLeast tb tw := by
  have hN12 := E.2.1
  have hA8 := E.1
  have hel := R.1
  intro n
  induction n with
  | zero => intro v tb tw h1 h2; omega
  | succ n ih =>
    intro v tb tw hv hn h1 h2
    unfold wX_recordThings_23
    refine pk_le el v (fun g => ⟨9, xt_rec3 E F R hL hU hW h 9 0 tb tw (Nat.zero_le _) (by omega) h1 (fun b hb => h2 b (by omega)) (fun b hb => absurd hb (Nat.not_lt_zero b))⟩) (fun g => ?_) R.2.1 rfl
    obtain ⟨hV, hnt⟩ := E.2.2.2.2.2.2.1.2.2 (32 + v) (by omega) (by omega)
    rw [show 32 + v - 32 = v from by omega] at hnt
    obtain ⟨w1, w2, w3, w4, w5⟩ := hW _ hV
    rw [hnt, ch_v_var (show v < 4 by omega)] at w2 w3 w4 w5
    rw [show (12 : Int32) + nI v = nI (12 + v) from nI_add 12 v, show (32 : Int32) + nI v = nI (32 + v) from nI_add 32 v]
    refine xt_trace E.2.2.2.2.2.2.1 F.2.2.2.2.2.1 hL hU (show 12 + v < 24 by omega) hV w1 w2 (nm_r (nI_1 v) (ih (v + 1) _ _ (by omega) (by omega) (fun k hk => ?_) (fun b hb => ?_)))
    · rw [pk_un (show k ≠ 12 + v by omega), pk_uLn (show k ≠ 12 + v by omega)]; exact h1 k hk
    · by_cases e : b = v
      · rw [e, pk_us, pk_uLs]
        exact Or.inr ⟨T v, rfl, rfl, rfl, w3, w4, by omega⟩
      · rw [pk_un (show 12 + b ≠ 12 + v by omega), pk_uLn (show 12 + b ≠ 12 + v by omega)]; exact h2 b (by omega)
theorem xt_rec1 (E : xs_E A N B cd tm c V nt sy nc an cv LV EL) (F : xs_F A N cd V sy nc an cv LV EL f_atoms f_basisSize f_liveSet f_elementSet a_cover a_nodeSymbol a_nodeChild a_atomNode) (R : xt_R A el cd tm c f_elems a_atomNode a_coefficient a_atomCode) (hL : uf_ok V L) (hU : xu_U L f_trailSize a_parent a_shape a_least a_trailNode a_trailShape a_trailLeast) (hW : xt_W V nt sy nc L T) (hslv : mk_slv A N B cd tm m T) (hm : m < 2 ^ N) (hfm : f_currentMask = nI m) {post : SX → Prop}
    (h : ∀ tb tw, xt_All A N el cd B tm c T m tb tw → post (f_bags, f_elems, f_maxBasis, f_maxWord, f_stage, f_currentMask, f_pendingWord, f_pendingLength, f_atoms, f_boxSize, f_liveSet, f_elementSet, f_frontierEnd, f_basisSize, f_knownCount, f_trailSize, a_atomCode, a_atomWord, a_leftTimes, a_rightTimes, a_coefficient, a_fieldCap, a_fieldShift, a_seen, a_frontierCode, a_frontierDefect, a_basisCode, a_cover, a_choice, a_covered, a_trailMark, a_nodeSymbol, a_nodeChild, a_atomNode, a_parent, a_weight, a_shape, a_least, a_trailNode, a_trailShape, a_trailLeast, tb, tw)) : ∀ n k tb tw, k ≤ N → N < n + k → (∀ j, j < k → xt_is (tb j) (tw j) (mk_item A cd B tm T m j)) → wX_recordThings_2 post n (nI k) f_bags f_elems f_maxBasis f_maxWord f_stage f_currentMask f_pendingWord f_pendingLength f_atoms f_boxSize f_liveSet f_elementSet f_frontierEnd f_basisSize f_knownCount f_trailSize a_atomCode a_atomWord a_leftTimes a_rightTimes a_coefficient a_fieldCap a_fieldShift a_seen a_frontierCode a_frontierDefect a_basisCode a_cover a_choice a_covered a_trailMark a_nodeSymbol a_nodeChild a_atomNode a_parent a_weight a_shape a_least a_trailNode a_trailShape a_trailLeast tb tw := by
  have hN12 := E.2.1
  have hel := R.1
  intro n
  induction n with
  | zero => intro k tb tw h1 h2; omega
  | succ n ih =>
    intro k tb tw hk hn h1
    unfold wX_recordThings_2
    refine pk_le N k (fun g => ⟨5, xt_rec2 E F R hL hU hW h 5 0 tb tw (Nat.zero_le _) (by omega) (fun b hb => h1 b (by omega)) (fun b hb => absurd hb (Nat.not_lt_zero b))⟩) (fun g => ?_) F.2.1 rfl
    refine xt_item E F hL hU hW hslv hm hfm g (fun tb' tw' hkeep hx => nm_r (nI_1 k) (ih (k + 1) tb' tw' (by omega) (by omega) (fun j hj => ?_)))
    by_cases e : j = k
    · rw [e]; exact hx
    · rw [(hkeep j e).1, (hkeep j e).2]; exact h1 j (by omega)
theorem xt_move (E : xs_E A N B cd tm c V nt sy nc an cv LV EL) (F : xs_F A N cd V sy nc an cv LV EL f_atoms f_basisSize f_liveSet f_elementSet a_cover a_nodeSymbol a_nodeChild a_atomNode) (R : xt_R A el cd tm c f_elems a_atomNode a_coefficient a_atomCode) (hU : xu_U L f_trailSize a_parent a_shape a_least a_trailNode a_trailShape a_trailLeast) {fr : Nat} (hfr : fr < 2 ^ 31) {post : Int32 → SX → Prop}
    (hS : ∀ m T L ts pa we sh le tn tsh tl ch co tk tb tw, xu_U L ts pa sh le tn tsh tl → fr ≤ m → m < 2 ^ N → mk_adm A N B cd tm c m → (∀ m', fr ≤ m' → m' < m → ¬ mk_adm A N B cd tm c m') → ch_nf T → (∀ s, ch_sv s T ↔ mk_slv A N B cd tm m s) → xt_All A N el cd B tm c T m tb tw → post (nI m) (f_bags, f_elems, f_maxBasis, f_maxWord, 2, nI m, f_pendingWord, f_pendingLength, f_atoms, f_boxSize, f_liveSet, f_elementSet, f_frontierEnd, f_basisSize, f_knownCount, ts, a_atomCode, a_atomWord, a_leftTimes, a_rightTimes, a_coefficient, a_fieldCap, a_fieldShift, a_seen, a_frontierCode, a_frontierDefect, a_basisCode, a_cover, ch, co, tk, a_nodeSymbol, a_nodeChild, a_atomNode, pa, we, sh, le, tn, tsh, tl, tb, tw))
    (hN : ∀ L ts pa we sh le tn tsh tl ch co tk, xu_U L ts pa sh le tn tsh tl → xs_No A N B cd tm c fr → post (-6) (f_bags, f_elems, f_maxBasis, f_maxWord, 3, 0, f_pendingWord, f_pendingLength, f_atoms, f_boxSize, f_liveSet, f_elementSet, f_frontierEnd, f_basisSize, f_knownCount, ts, a_atomCode, a_atomWord, a_leftTimes, a_rightTimes, a_coefficient, a_fieldCap, a_fieldShift, a_seen, a_frontierCode, a_frontierDefect, a_basisCode, a_cover, ch, co, tk, a_nodeSymbol, a_nodeChild, a_atomNode, pa, we, sh, le, tn, tsh, tl, a_thingBase, a_thingWord)) :
    wpX_moveTo post (f_bags, f_elems, f_maxBasis, f_maxWord, f_stage, f_currentMask, f_pendingWord, f_pendingLength, f_atoms, f_boxSize, f_liveSet, f_elementSet, f_frontierEnd, f_basisSize, f_knownCount, f_trailSize, a_atomCode, a_atomWord, a_leftTimes, a_rightTimes, a_coefficient, a_fieldCap, a_fieldShift, a_seen, a_frontierCode, a_frontierDefect, a_basisCode, a_cover, a_choice, a_covered, a_trailMark, a_nodeSymbol, a_nodeChild, a_atomNode, a_parent, a_weight, a_shape, a_least, a_trailNode, a_trailShape, a_trailLeast, a_thingBase, a_thingWord) (nI fr) := by
  have hN12 := E.2.1
  have hp12 : 2 ^ N ≤ 2 ^ 12 := Nat.pow_le_pow_right (by omega) hN12
  unfold wpX_moveTo
  refine xs_search E F hU hfr ?_ ?_
  · intro m L' ts pa we sh le tn tsh tl ch co tk hU' hS'
    obtain ⟨s1, s2, s3, s4, s5, s6⟩ := hS'
    refine br_t (nI_pos' (by omega)) ?_
    obtain ⟨T, t1, t2, t3⟩ := xt_T E.2.2.2.2.2.2.1 F.2.2.2.2.2.1 s1
    refine ⟨N + 1, xt_rec1 E F R s1.1 hU' t3 ((s2 T).mp ((t2 T).mp (ch_sv_self t1))) s4 rfl (fun tb tw hall => ?_) (N + 1) 0 _ _ (Nat.zero_le _) (by omega) (fun j hj => absurd hj (Nat.not_lt_zero j))⟩
    exact hS m T L' _ _ _ _ _ _ _ _ _ _ _ tb tw hU' s3 s4 s5 s6 t1 (fun s => (t2 s).trans (s2 s)) hall
  · intro L' ts pa we sh le tn tsh tl ch co tk hU' hno
    exact br_f (by decide) (hN L' _ _ _ _ _ _ _ _ _ _ _ hU' hno)
end XR
end
section
/-! ints of either sign; the fields of the box -/
def iI (z : Int) : Int32 := Int32.ofInt z
theorem iI_nI (n : Nat) : iI (n : Int) = nI n := Int32.ofInt_eq_ofNat
theorem iI_add (a b : Int) : iI a + iI b = iI (a + b) := (Int32.ofInt_add a b).symm
theorem iI_mul (a b : Int) : iI a * iI b = iI (a * b) := (Int32.ofInt_mul a b).symm
theorem iI_toInt {z : Int} (h1 : -2147483648 ≤ z) (h2 : z < 2147483648) : (iI z).toInt = z := Int32.toInt_ofInt_of_le (by omega) (by omega)
theorem iI_eq0 {z : Int} (h1 : -2147483648 ≤ z) (h2 : z < 2147483648) : iI z = 0 ↔ z = 0 := by
  rw [← Int32.toInt_inj, iI_toInt h1 h2, show (0 : Int32).toInt = 0 from by decide]
theorem iI_0le {z : Int} (h1 : -2147483648 ≤ z) (h2 : z < 2147483648) : 0 ≤ iI z ↔ 0 ≤ z := by
  rw [Int32.le_iff_toInt_le, iI_toInt h1 h2, show (0 : Int32).toInt = 0 from by decide]
theorem iI_sub (a b : Nat) : nI a - nI b = iI ((a : Int) - (b : Int)) := by
  have h : iI ((a : Int) - (b : Int)) + nI b = nI a := by
    rw [← iI_nI, iI_add, ← iI_nI]
    congr 1
    omega
  rw [← h, Int32.add_sub_cancel]
/-- the width of an atom's field -/
def bx_w (cd : Nat → Nat) (c : Nat → Int) (a : Nat) : Nat := if c a = 0 then 0 else if 20 ≤ cd a then 2 else 1
def bx_cap (cd : Nat → Nat) (c : Nat → Int) (a : Nat) : Nat := if c a = 0 then 0 else if 20 ≤ cd a then 3 else 1
theorem bx_capw (cd : Nat → Nat) (c : Nat → Int) (a : Nat) : bx_cap cd c a + 1 = 2 ^ bx_w cd c a := by
  unfold bx_cap bx_w
  split
  · rfl
  · split <;> rfl
theorem bx_w2 (cd : Nat → Nat) (c : Nat → Int) (a : Nat) : bx_w cd c a ≤ 2 := by
  unfold bx_w
  split
  · omega
  · split <;> omega
theorem bx_cap3 (cd : Nat → Nat) (c : Nat → Int) (a : Nat) : bx_cap cd c a ≤ 3 := by
  unfold bx_cap
  split
  · omega
  · split <;> omega
theorem bx_wsum (cd : Nat → Nat) (c : Nat → Int) : ∀ n a, rx_f (bx_w cd c) n a + ac_cn (fun a => decide (20 ≤ cd a)) a ≤ n + ac_cn (fun a => decide (20 ≤ cd a)) (a + n) := by
  intro n
  induction n with
  | zero => intro a; show 0 + _ ≤ 0 + _; exact Nat.le_refl _
  | succ n ih =>
    intro a
    have h := ih (a + 1)
    have e : ac_cn (fun a => decide (20 ≤ cd a)) (a + 1) = ac_cn (fun a => decide (20 ≤ cd a)) a + (if decide (20 ≤ cd a) = true then 1 else 0) := rfl
    rw [e] at h
    rw [show a + 1 + n = a + (n + 1) from by omega] at h
    show bx_w cd c a + rx_f (bx_w cd c) n (a + 1) + _ ≤ _
    have hw : bx_w cd c a ≤ 1 + (if decide (20 ≤ cd a) = true then 1 else 0) := by
      unfold bx_w
      by_cases g : 20 ≤ cd a
      · rw [if_pos (decide_eq_true g), if_pos g]; split <;> omega
      · rw [if_neg g]; split <;> omega
    omega
theorem bx_13 {A : Nat} {cd : Nat → Nat} (c : Nat → Int) (hA : A ≤ 8) (h25 : ∀ a, a < A → cd a < 25) (hinj : ∀ a b, a < A → b < A → 20 ≤ cd a → cd a = cd b → a = b) : rx_f (bx_w cd c) A 0 ≤ 13 := by
  have h1 := bx_wsum cd c A 0
  have h2 := ac_ph A (fun a => cd a - 20) 5 (fun a => decide (20 ≤ cd a)) (fun a ha hp => by
    have := of_decide_eq_true hp
    have := h25 a ha
    show cd a - 20 < 5
    omega) (fun a b ha hb hp hq e => by
    have h3 := of_decide_eq_true hp
    have h4 := of_decide_eq_true hq
    have e' : cd a - 20 = cd b - 20 := e
    exact hinj a b ha hb h3 (by omega))
  rw [Nat.zero_add] at h1
  have h3 : ac_cn (fun a => decide (20 ≤ cd a)) 0 = 0 := rfl
  omega
theorem bx_s13 {w : Nat → Nat} {A a : Nat} (ha : a < A) (h : rx_f w A 0 ≤ 13) : rx_s w A a ≤ 13 := by
  have h1 := rx_f_s w ha
  have h2 := rx_f_mono w (A := A) a 0 (by omega)
  rw [Nat.zero_add] at h2
  rw [Nat.sub_zero] at h2
  omega
/-- the atoms from i on that satisfy p, as a set of bits -/
def bx_set (A : Nat) (p : Nat → Prop) (i x : Nat) : Prop := ∀ a, x.testBit a = true ↔ i ≤ a ∧ a < A ∧ p a
theorem bx_set_top {A : Nat} {p : Nat → Prop} : bx_set A p A 0 := fun a => by
  rw [Nat.zero_testBit]
  exact ⟨fun h => absurd h Bool.false_ne_true, fun h => by omega⟩
theorem bx_set_add {A : Nat} {p : Nat → Prop} {i x : Nat} (hi : i < A) (h : bx_set A p (i + 1) x) (hp : p i) : bx_set A p i (x ||| 2 ^ i) := by
  intro a
  rw [Nat.testBit_or, Bool.or_eq_true, h a, Nat.testBit_two_pow, decide_eq_true_eq]
  constructor
  · intro g
    rcases g with g | g
    · exact ⟨by omega, g.2.1, g.2.2⟩
    · subst g; exact ⟨Nat.le_refl _, hi, hp⟩
  · intro ⟨g1, g2, g3⟩
    by_cases e : i = a
    · exact Or.inr e
    · exact Or.inl ⟨by omega, g2, g3⟩
theorem bx_set_not {A : Nat} {p : Nat → Prop} {i x : Nat} (h : bx_set A p (i + 1) x) (hp : ¬ p i) : bx_set A p i x := by
  intro a
  rw [h a]
  constructor
  · intro g; exact ⟨by omega, g.2.1, g.2.2⟩
  · intro ⟨g1, g2, g3⟩
    refine ⟨?_, g2, g3⟩
    by_cases e : i = a
    · subst e; exact absurd g3 hp
    · omega
/-- the set of the places below n where f is not 0 -/
def bx_cov (f : Nat → Nat) : Nat → Nat
  | 0 => 0
  | n + 1 => if 0 < f n then bx_cov f n ||| 2 ^ n else bx_cov f n
theorem bx_cov_bit {f : Nat → Nat} : ∀ n a, (bx_cov f n).testBit a = true ↔ a < n ∧ 0 < f a := by
  intro n
  induction n with
  | zero =>
    intro a
    show (0 : Nat).testBit a = true ↔ _
    rw [Nat.zero_testBit]
    exact ⟨fun h => absurd h Bool.false_ne_true, fun h => by omega⟩
  | succ n ih =>
    intro a
    show (if 0 < f n then bx_cov f n ||| 2 ^ n else bx_cov f n).testBit a = true ↔ _
    by_cases g : 0 < f n
    · rw [if_pos g, Nat.testBit_or, Bool.or_eq_true, ih a, Nat.testBit_two_pow, decide_eq_true_eq]
      constructor
      · intro q
        rcases q with q | q
        · exact ⟨by omega, q.2⟩
        · subst q; exact ⟨by omega, g⟩
      · intro ⟨q1, q2⟩
        by_cases e : n = a
        · exact Or.inr e
        · exact Or.inl ⟨by omega, q2⟩
    · rw [if_neg g, ih a]
      constructor
      · intro q; exact ⟨by omega, q.2⟩
      · intro ⟨q1, q2⟩
        refine ⟨?_, q2⟩
        by_cases e : n = a
        · subst e; exact absurd q2 g
        · omega
theorem bx_cov_lt {f : Nat → Nat} (n : Nat) : bx_cov f n < 2 ^ n := ib_bit_lt (fun a ha => ((bx_cov_bit n a).mp ha).1)
end
section
/-! the component lays out the box and looks vectors up -/
def xb_B (A : Nat) (cd : Nat → Nat) (c : Nat → Int) (co cap sh : Nat → Int32) : Prop := ∀ a, a < A → co a = iI (c a) ∧ cap a = nI (bx_cap cd c a) ∧ sh a = nI (rx_s (bx_w cd c) A a)
section XB
variable {f_bags f_elems f_maxBasis f_maxWord f_stage f_currentMask f_pendingWord f_pendingLength f_atoms f_boxSize f_liveSet f_elementSet f_frontierEnd f_basisSize f_knownCount f_trailSize : Int32} {a_atomCode a_atomWord a_leftTimes a_rightTimes a_coefficient a_fieldCap a_fieldShift a_seen a_frontierCode a_frontierDefect a_basisCode a_cover a_choice a_covered a_trailMark a_nodeSymbol a_nodeChild a_atomNode a_parent a_weight a_shape a_least a_trailNode a_trailShape a_trailLeast a_thingBase : Nat → Int32} {a_thingWord : Nat → Int64}
variable {A : Nat} {cd lt rt : Nat → Nat} {c : Nat → Int}
theorem xb_box_l (hA : A ≤ 8) (hfa : f_atoms = nI A) (hcd : ∀ a, a < A → a_atomCode a = nI (cd a) ∧ cd a < 25) (ht : ∀ a, a < A → a_leftTimes a = nI (lt a) ∧ a_rightTimes a = nI (rt a) ∧ lt a ≤ 3 ∧ rt a ≤ 3 ∧ c a = (lt a : Int) - (rt a : Int)) (h13 : rx_f (bx_w cd c) A 0 ≤ 13) {post : SX → Prop}
    (h : ∀ lv el co cap sh, xb_B A cd c co cap sh → (∃ LV, lv = nI LV ∧ mk_live A c LV) → (∃ EL, el = nI EL ∧ mk_elt A c cd EL) → post (f_bags, f_elems, f_maxBasis, f_maxWord, f_stage, f_currentMask, f_pendingWord, f_pendingLength, f_atoms, nI (2 ^ rx_f (bx_w cd c) A 0), lv, el, f_frontierEnd, f_basisSize, f_knownCount, f_trailSize, a_atomCode, a_atomWord, a_leftTimes, a_rightTimes, co, cap, sh, a_seen, a_frontierCode, a_frontierDefect, a_basisCode, a_cover, a_choice, a_covered, a_trailMark, a_nodeSymbol, a_nodeChild, a_atomNode, a_parent, a_weight, a_shape, a_least, a_trailNode, a_trailShape, a_trailLeast, a_thingBase, a_thingWord)) :
    ∀ n i LV EL co cap sh, i ≤ A → i < n → (∀ a, i ≤ a → a < A → co a = iI (c a) ∧ cap a = nI (bx_cap cd c a) ∧ sh a = nI (rx_s (bx_w cd c) A a)) → bx_set A (fun a => c a ≠ 0) i LV → bx_set A (fun a => c a ≠ 0 ∧ cd a < 20) i EL →
      wX_prepareBox_19 post f_bags f_elems f_maxBasis f_maxWord f_stage f_currentMask f_pendingWord f_pendingLength f_atoms f_boxSize f_frontierEnd f_basisSize f_knownCount f_trailSize n (nI (rx_f (bx_w cd c) (A - i) i)) (nI i + (-1)) (nI LV) (nI EL) a_atomCode a_atomWord a_leftTimes a_rightTimes co cap sh a_seen a_frontierCode a_frontierDefect a_basisCode a_cover a_choice a_covered a_trailMark a_nodeSymbol a_nodeChild a_atomNode a_parent a_weight a_shape a_least a_trailNode a_trailShape a_trailLeast a_thingBase a_thingWord := by
  intro n
  induction n with
  | zero => intro i LV EL co cap sh _ h2; omega
  | succ n ih =>
    intro i LV EL co cap sh hi hn hB hl he
    unfold wX_prepareBox_19
    rcases Nat.eq_zero_or_pos i with z | z
    · subst z
      refine br_t (by decide) (nm_r (e' := nI (2 ^ rx_f (bx_w cd c) A 0)) ?_ (h _ _ _ _ _ (fun a ha => hB a (Nat.zero_le _) ha) ⟨LV, rfl, fun a => ?_⟩ ⟨EL, rfl, fun a => ?_⟩))
      · rw [Nat.sub_zero]; exact ib_shl (by omega)
      · rw [hl a]; exact ⟨fun q => q.2, fun q => ⟨Nat.zero_le _, q⟩⟩
      · rw [he a]; exact ⟨fun q => q.2, fun q => ⟨Nat.zero_le _, q⟩⟩
    · obtain ⟨i, rfl⟩ : ∃ j, i = j + 1 := ⟨i - 1, by omega⟩
      have hiA : i < A := by omega
      have ii : vp_in (nI i) 8 := vp_in_nI (by omega) (by omega)
      have ci : (nI i).toNatClampNeg = i := nI_clamp (by omega)
      obtain ⟨t1, t2, t3, t4, t5⟩ := ht i hiA
      obtain ⟨c1, c2⟩ := hcd i hiA
      have hs : rx_s (bx_w cd c) A i = rx_f (bx_w cd c) (A - (i + 1)) (i + 1) := by
        show rx_f _ (A - 1 - i) (i + 1) = _
        rw [show A - 1 - i = A - (i + 1) from by omega]
      have hfs := rx_f_s (bx_w cd c) hiA
      have h13s := bx_s13 hiA h13
      have hco : nI (lt i) - nI (rt i) = iI (c i) := by rw [iI_sub, t5]
      rw [pk_m1, ci, t1, t2, hco]
      refine br_f (nI_pos (by omega)) ⟨ii, ii, ii, nm_e ⟨ii, nm_e ⟨ii, nm_e ⟨ii, ?_⟩⟩⟩⟩
      rw [pk_us]
      have keep : ∀ (v : Nat) (LV' EL' : Nat), v = bx_cap cd c i → bx_set A (fun a => c a ≠ 0) i LV' → bx_set A (fun a => c a ≠ 0 ∧ cd a < 20) i EL' → ∀ cap', cap' i = nI v → (∀ j, j ≠ i → cap' j = cap j) → ∀ x1, x1 = nI (rx_f (bx_w cd c) (A - i) i) → wX_prepareBox_19 post f_bags f_elems f_maxBasis f_maxWord f_stage f_currentMask f_pendingWord f_pendingLength f_atoms f_boxSize f_frontierEnd f_basisSize f_knownCount f_trailSize n x1 (nI i + (-1)) (nI LV') (nI EL') a_atomCode a_atomWord a_leftTimes a_rightTimes (upd co i (iI (c i))) cap' (upd sh i (nI (rx_f (bx_w cd c) (A - (i + 1)) (i + 1)))) a_seen a_frontierCode a_frontierDefect a_basisCode a_cover a_choice a_covered a_trailMark a_nodeSymbol a_nodeChild a_atomNode a_parent a_weight a_shape a_least a_trailNode a_trailShape a_trailLeast a_thingBase a_thingWord := by
        intro v LV' EL' hv hl' he' cap' hcap hcap' x1 hx1
        subst hx1
        refine ih i LV' EL' _ _ _ (by omega) (by omega) (fun a ha haA => ?_) hl' he'
        by_cases e : a = i
        · subst e
          rw [pk_us, pk_us, hcap, hv, hs]
          exact ⟨rfl, rfl, rfl⟩
        · rw [pk_un e, pk_un e, hcap' a e]
          exact hB a (by omega) haA
      by_cases hz : c i = 0
      · refine br_t ((iI_eq0 (by omega) (by omega)).mpr hz) (nm_e ?_)
        refine keep 0 LV EL ?_ (bx_set_not hl (fun q => q hz)) (bx_set_not he (fun q => q.1 hz)) _ pk_us (fun j hj => pk_un hj) _ ?_
        · unfold bx_cap; rw [if_pos hz]
        · rw [hfs, show bx_w cd c i = 0 from if_pos hz, Nat.zero_add, hs]
      · refine br_f (fun q => hz ((iI_eq0 (by omega) (by omega)).mp q)) ?_
        rw [ib_shl (show i < 31 by omega), ib_or, ib_or]
        refine nm_e ⟨ii, ?_⟩
        rw [ci, c1]
        refine pk_lt (cd i) 20 (fun g => ?_) (fun g => ?_)
        · refine br_t rfl ⟨ii, nm_e (nm_r (nI_1 _) (nm_e (nm_e ?_)))⟩
          refine keep 1 (LV ||| 2 ^ i) (EL ||| 2 ^ i) ?_ (bx_set_add hiA hl hz) (bx_set_add hiA he ⟨hz, g⟩) _ pk_us (fun j hj => by rw [pk_un hj, pk_un hj]) _ ?_
          · unfold bx_cap; rw [if_neg hz, if_neg (by omega)]
          · rw [hfs, show bx_w cd c i = 1 from by unfold bx_w; rw [if_neg hz, if_neg (by omega)], hs, Nat.add_comm]
        · refine br_f (by decide) ⟨ii, nm_e (nm_e (nm_e ?_))⟩
          refine keep 3 (LV ||| 2 ^ i) EL ?_ (bx_set_add hiA hl hz) (bx_set_not he (fun q => by omega)) _ pk_us (fun j hj => by rw [pk_un hj, pk_un hj]) _ ?_
          · unfold bx_cap; rw [if_neg hz, if_pos g]
          · rw [hfs, show bx_w cd c i = 2 from by unfold bx_w; rw [if_neg hz, if_pos g], hs, Nat.add_comm 2]
            exact nI_add _ 2
theorem xb_box (hA : A ≤ 8) (hfa : f_atoms = nI A) (hcd : ∀ a, a < A → a_atomCode a = nI (cd a) ∧ cd a < 25) (ht : ∀ a, a < A → a_leftTimes a = nI (lt a) ∧ a_rightTimes a = nI (rt a) ∧ lt a ≤ 3 ∧ rt a ≤ 3 ∧ c a = (lt a : Int) - (rt a : Int)) (h13 : rx_f (bx_w cd c) A 0 ≤ 13) {post : SX → Prop}
    (h : ∀ lv el co cap sh, xb_B A cd c co cap sh → (∃ LV, lv = nI LV ∧ mk_live A c LV) → (∃ EL, el = nI EL ∧ mk_elt A c cd EL) → post (f_bags, f_elems, f_maxBasis, f_maxWord, f_stage, f_currentMask, f_pendingWord, f_pendingLength, f_atoms, nI (2 ^ rx_f (bx_w cd c) A 0), lv, el, f_frontierEnd, f_basisSize, f_knownCount, f_trailSize, a_atomCode, a_atomWord, a_leftTimes, a_rightTimes, co, cap, sh, a_seen, a_frontierCode, a_frontierDefect, a_basisCode, a_cover, a_choice, a_covered, a_trailMark, a_nodeSymbol, a_nodeChild, a_atomNode, a_parent, a_weight, a_shape, a_least, a_trailNode, a_trailShape, a_trailLeast, a_thingBase, a_thingWord)) : wpX_prepareBox post (f_bags, f_elems, f_maxBasis, f_maxWord, f_stage, f_currentMask, f_pendingWord, f_pendingLength, f_atoms, f_boxSize, f_liveSet, f_elementSet, f_frontierEnd, f_basisSize, f_knownCount, f_trailSize, a_atomCode, a_atomWord, a_leftTimes, a_rightTimes, a_coefficient, a_fieldCap, a_fieldShift, a_seen, a_frontierCode, a_frontierDefect, a_basisCode, a_cover, a_choice, a_covered, a_trailMark, a_nodeSymbol, a_nodeChild, a_atomNode, a_parent, a_weight, a_shape, a_least, a_trailNode, a_trailShape, a_trailLeast, a_thingBase, a_thingWord) := by
  refine nm_r (e' := nI A + (-1)) (by rw [hfa, Int32.sub_eq_add_neg]) ⟨A + 1, ?_⟩
  have := xb_box_l (f_boxSize := f_boxSize) hA hfa hcd ht h13 h (A + 1) A 0 0 a_coefficient a_fieldCap a_fieldShift (Nat.le_refl _) (by omega) (fun a h1 h2 => by omega) bx_set_top bx_set_top
  rw [Nat.sub_self] at this
  exact this
/-! looking up -/
theorem xb_entry (hA : A ≤ 8) (h13 : rx_f (bx_w cd c) A 0 ≤ 13) (hB : xb_B A cd c a_coefficient a_fieldCap a_fieldShift) {x a : Nat} (hx : x < 2 ^ 31) (ha : a < A) {post : Int32 → Prop} (h : post (nI (rx_e (bx_w cd c) A x a))) : wpX_entry post (f_bags, f_elems, f_maxBasis, f_maxWord, f_stage, f_currentMask, f_pendingWord, f_pendingLength, f_atoms, f_boxSize, f_liveSet, f_elementSet, f_frontierEnd, f_basisSize, f_knownCount, f_trailSize, a_atomCode, a_atomWord, a_leftTimes, a_rightTimes, a_coefficient, a_fieldCap, a_fieldShift, a_seen, a_frontierCode, a_frontierDefect, a_basisCode, a_cover, a_choice, a_covered, a_trailMark, a_nodeSymbol, a_nodeChild, a_atomNode, a_parent, a_weight, a_shape, a_least, a_trailNode, a_trailShape, a_trailLeast, a_thingBase, a_thingWord) (nI x) (nI a) := by
  have ia : vp_in (nI a) 8 := vp_in_nI (by omega) (by omega)
  obtain ⟨b1, b2, b3⟩ := hB a ha
  have hw := bx_w2 cd c a
  have h13s := bx_s13 ha h13
  have e : (nI x >>> (a_fieldShift a &&& 31)) &&& a_fieldCap a = nI (rx_e (bx_w cd c) A x a) := by
    rw [b2, b3, show bx_cap cd c a = 2 ^ bx_w cd c a - 1 from by rw [← bx_capw]; rfl]
    exact ib_ent hx (by omega) (by omega)
  refine ⟨ia, ia, ?_⟩
  rw [nI_clamp (show a < 2 ^ 31 by omega), e]
  exact h
theorem xb_e3 (x a : Nat) : rx_e (bx_w cd c) A x a ≤ 3 := by
  have h1 := rx_e_lt (bx_w cd c) A x a
  have h2 : 2 ^ bx_w cd c a ≤ 2 ^ 2 := Nat.pow_le_pow_right (by omega) (bx_w2 cd c a)
  omega
theorem xb_below_l (hA : A ≤ 8) (hfa : f_atoms = nI A) (h13 : rx_f (bx_w cd c) A 0 ≤ 13) (hB : xb_B A cd c a_coefficient a_fieldCap a_fieldShift) {x y : Nat} (hx : x < 2 ^ 31) (hy : y < 2 ^ 31) {post : Int32 → Prop} (h1 : bf_le (bx_w cd c) A x y → post 1) (h0 : ¬ bf_le (bx_w cd c) A x y → post 0) :
    ∀ n a, a ≤ A → A < n + a → (∀ b, b < a → rx_e (bx_w cd c) A x b ≤ rx_e (bx_w cd c) A y b) → wX_isBelow_2 post (nI x) (nI y) f_bags f_elems f_maxBasis f_maxWord f_stage f_currentMask f_pendingWord f_pendingLength f_atoms f_boxSize f_liveSet f_elementSet f_frontierEnd f_basisSize f_knownCount f_trailSize a_atomCode a_atomWord a_leftTimes a_rightTimes a_coefficient a_fieldCap a_fieldShift a_seen a_frontierCode a_frontierDefect a_basisCode a_cover a_choice a_covered a_trailMark a_nodeSymbol a_nodeChild a_atomNode a_parent a_weight a_shape a_least a_trailNode a_trailShape a_trailLeast a_thingBase a_thingWord n (nI a) := by
  intro n
  induction n with
  | zero => intro a h1 h2; omega
  | succ n ih =>
    intro a ha hn hle
    unfold wX_isBelow_2
    refine pk_le A a (fun g => h1 (fun b hb => hle b (by omega))) (fun g => ?_) hfa rfl
    have ex := xb_e3 (cd := cd) (c := c) (A := A) x a
    have ey := xb_e3 (cd := cd) (c := c) (A := A) y a
    refine xb_entry hA h13 hB hx g (xb_entry hA h13 hB hy g ?_)
    refine pk_le (rx_e (bx_w cd c) A x a) (rx_e (bx_w cd c) A y a) (fun g2 => nm_r (nI_1 a) (ih (a + 1) (by omega) (by omega) (fun b hb => ?_))) (fun g2 => h0 (fun q => by have := q a g; omega))
    by_cases e : b = a
    · rw [e]; exact g2
    · exact hle b (by omega)
theorem xb_below (hA : A ≤ 8) (hfa : f_atoms = nI A) (h13 : rx_f (bx_w cd c) A 0 ≤ 13) (hB : xb_B A cd c a_coefficient a_fieldCap a_fieldShift) {x y : Nat} (hx : x < 2 ^ 31) (hy : y < 2 ^ 31) {post : Int32 → Prop} (h1 : bf_le (bx_w cd c) A x y → post 1) (h0 : ¬ bf_le (bx_w cd c) A x y → post 0) : wpX_isBelow post (f_bags, f_elems, f_maxBasis, f_maxWord, f_stage, f_currentMask, f_pendingWord, f_pendingLength, f_atoms, f_boxSize, f_liveSet, f_elementSet, f_frontierEnd, f_basisSize, f_knownCount, f_trailSize, a_atomCode, a_atomWord, a_leftTimes, a_rightTimes, a_coefficient, a_fieldCap, a_fieldShift, a_seen, a_frontierCode, a_frontierDefect, a_basisCode, a_cover, a_choice, a_covered, a_trailMark, a_nodeSymbol, a_nodeChild, a_atomNode, a_parent, a_weight, a_shape, a_least, a_trailNode, a_trailShape, a_trailLeast, a_thingBase, a_thingWord) (nI x) (nI y) :=
  ⟨A + 1, xb_below_l hA hfa h13 hB hx hy h1 h0 (A + 1) 0 (Nat.zero_le _) (by omega) (fun b hb => absurd hb (Nat.not_lt_zero b))⟩
theorem xb_above_l (hA : A ≤ 8) (hfa : f_atoms = nI A) (h13 : rx_f (bx_w cd c) A 0 ≤ 13) (hB : xb_B A cd c a_coefficient a_fieldCap a_fieldShift) {m : Nat} (hm : m ≤ 12) (hfb : f_basisSize = nI m) {bs : Nat → Nat} (hbs : ∀ k, k < m → a_basisCode k = nI (bs k) ∧ bs k < 2 ^ 31) {x : Nat} (hx : x < 2 ^ 31) {post : Int32 → Prop} (h1 : (∃ k, k < m ∧ bf_le (bx_w cd c) A (bs k) x) → post 1) (h0 : (∀ k, k < m → ¬ bf_le (bx_w cd c) A (bs k) x) → post 0) :
    ∀ n k, k ≤ m → m < n + k → (∀ j, j < k → ¬ bf_le (bx_w cd c) A (bs j) x) → wX_isAboveBasis_2 post (nI x) f_bags f_elems f_maxBasis f_maxWord f_stage f_currentMask f_pendingWord f_pendingLength f_atoms f_boxSize f_liveSet f_elementSet f_frontierEnd f_basisSize f_knownCount f_trailSize a_atomCode a_atomWord a_leftTimes a_rightTimes a_coefficient a_fieldCap a_fieldShift a_seen a_frontierCode a_frontierDefect a_basisCode a_cover a_choice a_covered a_trailMark a_nodeSymbol a_nodeChild a_atomNode a_parent a_weight a_shape a_least a_trailNode a_trailShape a_trailLeast a_thingBase a_thingWord n (nI k) := by
  intro n
  induction n with
  | zero => intro k h1 h2; omega
  | succ n ih =>
    intro k hk hn hle
    unfold wX_isAboveBasis_2
    refine pk_le m k (fun g => h0 (fun j hj => hle j (by omega))) (fun g => ?_) hfb rfl
    obtain ⟨b1, b2⟩ := hbs k g
    rw [nI_clamp (show k < 2 ^ 31 by omega), b1]
    refine ⟨vp_in_nI (by omega) (by omega), xb_below hA hfa h13 hB b2 hx (fun g2 => br_f (by decide) (h1 ⟨k, g, g2⟩)) (fun g2 => br_t rfl (nm_r (nI_1 k) (ih (k + 1) (by omega) (by omega) (fun j hj => ?_))))⟩
    by_cases e : j = k
    · rw [e]; exact g2
    · exact hle j (by omega)
theorem xb_above (hA : A ≤ 8) (hfa : f_atoms = nI A) (h13 : rx_f (bx_w cd c) A 0 ≤ 13) (hB : xb_B A cd c a_coefficient a_fieldCap a_fieldShift) {m : Nat} (hm : m ≤ 12) (hfb : f_basisSize = nI m) {bs : Nat → Nat} (hbs : ∀ k, k < m → a_basisCode k = nI (bs k) ∧ bs k < 2 ^ 31) {x : Nat} (hx : x < 2 ^ 31) {post : Int32 → Prop} (h1 : (∃ k, k < m ∧ bf_le (bx_w cd c) A (bs k) x) → post 1) (h0 : (∀ k, k < m → ¬ bf_le (bx_w cd c) A (bs k) x) → post 0) : wpX_isAboveBasis post (f_bags, f_elems, f_maxBasis, f_maxWord, f_stage, f_currentMask, f_pendingWord, f_pendingLength, f_atoms, f_boxSize, f_liveSet, f_elementSet, f_frontierEnd, f_basisSize, f_knownCount, f_trailSize, a_atomCode, a_atomWord, a_leftTimes, a_rightTimes, a_coefficient, a_fieldCap, a_fieldShift, a_seen, a_frontierCode, a_frontierDefect, a_basisCode, a_cover, a_choice, a_covered, a_trailMark, a_nodeSymbol, a_nodeChild, a_atomNode, a_parent, a_weight, a_shape, a_least, a_trailNode, a_trailShape, a_trailLeast, a_thingBase, a_thingWord) (nI x) :=
  ⟨m + 1, xb_above_l hA hfa h13 hB hm hfb hbs hx h1 h0 (m + 1) 0 (Nat.zero_le _) (by omega) (fun b hb => absurd hb (Nat.not_lt_zero b))⟩
theorem xb_ins_l {m x : Nat} (hm : m < 12) (hfb : f_basisSize = nI m) {bs : Nat → Nat} (hbs : ∀ k, k < m → bs k < 2 ^ 31) (hx : x < 2 ^ 31) (hne : ∀ k, k < m → bs k ≠ x) {post : SX → Prop}
    (h : ∀ p bc, p ≤ m → (∀ k, k < p → bs k ≤ x → bs k < x) → (p = 0 ∨ bs (p - 1) < x) → (∀ k, p ≤ k → k < m → x < bs k) → (∀ k, k < p → bc k = nI (bs k)) → bc p = nI x → (∀ k, p < k → k < m + 1 → bc k = nI (bs (k - 1))) → post (f_bags, f_elems, f_maxBasis, f_maxWord, f_stage, f_currentMask, f_pendingWord, f_pendingLength, f_atoms, f_boxSize, f_liveSet, f_elementSet, f_frontierEnd, nI (m + 1), f_knownCount, f_trailSize, a_atomCode, a_atomWord, a_leftTimes, a_rightTimes, a_coefficient, a_fieldCap, a_fieldShift, a_seen, a_frontierCode, a_frontierDefect, bc, a_cover, a_choice, a_covered, a_trailMark, a_nodeSymbol, a_nodeChild, a_atomNode, a_parent, a_weight, a_shape, a_least, a_trailNode, a_trailShape, a_trailLeast, a_thingBase, a_thingWord)) :
    ∀ n p bc, p ≤ m → p < n → (∀ k, p ≤ k → k < m → x < bs k) → (∀ k, k < p → bc k = nI (bs k)) → (∀ k, p < k → k < m + 1 → bc k = nI (bs (k - 1))) → wX_insertSolution_12 post (nI x) f_bags f_elems f_maxBasis f_maxWord f_stage f_currentMask f_pendingWord f_pendingLength f_atoms f_boxSize f_liveSet f_elementSet f_frontierEnd f_basisSize f_knownCount f_trailSize n (nI p) (nI p + (-1)) a_atomCode a_atomWord a_leftTimes a_rightTimes a_coefficient a_fieldCap a_fieldShift a_seen a_frontierCode a_frontierDefect bc a_cover a_choice a_covered a_trailMark a_nodeSymbol a_nodeChild a_atomNode a_parent a_weight a_shape a_least a_trailNode a_trailShape a_trailLeast a_thingBase a_thingWord := by
  intro n
  induction n with
  | zero => intro p bc h1 h2; omega
  | succ n ih =>
    intro p bc hp hn h1 h2 h3
    have ip : vp_in (nI p) 12 := vp_in_nI (by omega) (by omega)
    have cp : (nI p).toNatClampNeg = p := nI_clamp (by omega)
    have fin : (p = 0 ∨ bs (p - 1) < x) → wX_insertSolution_48 post (nI x) (nI p) f_bags f_elems f_maxBasis f_maxWord f_stage f_currentMask f_pendingWord f_pendingLength f_atoms f_boxSize f_liveSet f_elementSet f_frontierEnd f_basisSize f_knownCount f_trailSize a_atomCode a_atomWord a_leftTimes a_rightTimes a_coefficient a_fieldCap a_fieldShift a_seen a_frontierCode a_frontierDefect bc a_cover a_choice a_covered a_trailMark a_nodeSymbol a_nodeChild a_atomNode a_parent a_weight a_shape a_least a_trailNode a_trailShape a_trailLeast a_thingBase a_thingWord := by
      intro hlo
      unfold wX_insertSolution_48
      rw [cp]
      refine ⟨ip, nm_e (nm_r (e' := nI (m + 1)) (by rw [hfb, nI_1]) (h p _ hp (fun k hk hle => by have := hne k (by omega); omega) hlo h1 (fun k hk => by rw [pk_un (by omega)]; exact h2 k hk) pk_us (fun k hk1 hk2 => by rw [pk_un (by omega)]; exact h3 k hk1 hk2)))⟩
    unfold wX_insertSolution_12
    rcases Nat.eq_zero_or_pos p with z | z
    · subst z
      exact br_t (by decide) (fin (Or.inl rfl))
    · obtain ⟨p, rfl⟩ : ∃ j, p = j + 1 := ⟨p - 1, by omega⟩
      have hb1 := hbs p (by omega)
      have ip' : vp_in (nI p) 12 := vp_in_nI (by omega) (by omega)
      rw [pk_m1, nI_clamp (show p < 2 ^ 31 by omega), h2 p (by omega), nI_1, cp]
      refine br_f (nI_pos (by omega)) ⟨ip', ?_⟩
      refine pk_le (bs p) x (fun g => fin (Or.inr ?_)) (fun g => ⟨ip', ip, nm_e (nm_e ?_)⟩)
      · have := hne p (by omega)
        show bs p < x
        omega
      · refine ih p _ (by omega) (by omega) (fun k hk1 hk2 => ?_) (fun k hk => ?_) (fun k hk1 hk2 => ?_)
        · by_cases e : k = p
          · rw [e]; exact g
          · exact h1 k (by omega) hk2
        · rw [pk_un (by omega)]; exact h2 k (by omega)
        · by_cases e : k = p + 1
          · rw [e, pk_us]; rfl
          · rw [pk_un e]; exact h3 k (by omega) hk2
end XB
end
section
/-! the component's frontier -/
def xf_A (w : Nat → Nat) (A : Nat) (c : Nat → Int) (q : Nat → Nat) (e : Nat) (fe : Int32) (se fc fd : Nat → Int32) : Prop :=
  fe = nI e ∧ (∀ i, i < e → fc i = nI (q i) ∧ fd i = iI (di_sum c (rx_e w A (q i)) A)) ∧ ∀ x, x < 2 ^ rx_f w A 0 → (se x = 0 ↔ ∀ i, i < e → q i ≠ x)
section XF
variable {f_bags f_elems f_maxBasis f_maxWord f_stage f_currentMask f_pendingWord f_pendingLength f_atoms f_boxSize f_liveSet f_elementSet f_frontierEnd f_basisSize f_knownCount f_trailSize : Int32} {a_atomCode a_atomWord a_leftTimes a_rightTimes a_coefficient a_fieldCap a_fieldShift a_seen a_frontierCode a_frontierDefect a_basisCode a_cover a_choice a_covered a_trailMark a_nodeSymbol a_nodeChild a_atomNode a_parent a_weight a_shape a_least a_trailNode a_trailShape a_trailLeast a_thingBase : Nat → Int32} {a_thingWord : Nat → Int64}
variable {A : Nat} {cd : Nat → Nat} {c : Nat → Int}
theorem xf_13 {w : Nat → Nat} (h13 : rx_f w A 0 ≤ 13) {x : Nat} (hx : x < 2 ^ rx_f w A 0) : x < 8192 := by
  have : 2 ^ rx_f w A 0 ≤ 2 ^ 13 := Nat.pow_le_pow_right (by omega) h13
  omega
theorem xf_enq (h13 : rx_f (bx_w cd c) A 0 ≤ 13) {q : Nat → Nat} {e h : Nat} (hQ : bf_Q (bx_w cd c) A q e) (hL : bf_L (bx_w cd c) A q e h) (hh : h < e) (hA : xf_A (bx_w cd c) A c q e f_frontierEnd a_seen a_frontierCode a_frontierDefect) {x : Nat} (hx : x < 2 ^ rx_f (bx_w cd c) A 0) (hl : bf_lv (bx_w cd c) A x = bf_lv (bx_w cd c) A (q h) + 1) {post : SX → Prop}
    (h1 : (∃ i, i < e ∧ q i = x) → post (f_bags, f_elems, f_maxBasis, f_maxWord, f_stage, f_currentMask, f_pendingWord, f_pendingLength, f_atoms, f_boxSize, f_liveSet, f_elementSet, f_frontierEnd, f_basisSize, f_knownCount, f_trailSize, a_atomCode, a_atomWord, a_leftTimes, a_rightTimes, a_coefficient, a_fieldCap, a_fieldShift, a_seen, a_frontierCode, a_frontierDefect, a_basisCode, a_cover, a_choice, a_covered, a_trailMark, a_nodeSymbol, a_nodeChild, a_atomNode, a_parent, a_weight, a_shape, a_least, a_trailNode, a_trailShape, a_trailLeast, a_thingBase, a_thingWord))
    (h2 : ∀ q' fe se fc fd, (∀ i, i < e → q' i = q i) → q' e = x → bf_Q (bx_w cd c) A q' (e + 1) → bf_L (bx_w cd c) A q' (e + 1) h → xf_A (bx_w cd c) A c q' (e + 1) fe se fc fd → post (f_bags, f_elems, f_maxBasis, f_maxWord, f_stage, f_currentMask, f_pendingWord, f_pendingLength, f_atoms, f_boxSize, f_liveSet, f_elementSet, fe, f_basisSize, f_knownCount, f_trailSize, a_atomCode, a_atomWord, a_leftTimes, a_rightTimes, a_coefficient, a_fieldCap, a_fieldShift, se, fc, fd, a_basisCode, a_cover, a_choice, a_covered, a_trailMark, a_nodeSymbol, a_nodeChild, a_atomNode, a_parent, a_weight, a_shape, a_least, a_trailNode, a_trailShape, a_trailLeast, a_thingBase, a_thingWord)) :
    wpX_enqueue post (f_bags, f_elems, f_maxBasis, f_maxWord, f_stage, f_currentMask, f_pendingWord, f_pendingLength, f_atoms, f_boxSize, f_liveSet, f_elementSet, f_frontierEnd, f_basisSize, f_knownCount, f_trailSize, a_atomCode, a_atomWord, a_leftTimes, a_rightTimes, a_coefficient, a_fieldCap, a_fieldShift, a_seen, a_frontierCode, a_frontierDefect, a_basisCode, a_cover, a_choice, a_covered, a_trailMark, a_nodeSymbol, a_nodeChild, a_atomNode, a_parent, a_weight, a_shape, a_least, a_trailNode, a_trailShape, a_trailLeast, a_thingBase, a_thingWord) (nI x) (iI (di_sum c (rx_e (bx_w cd c) A x) A)) := by
  obtain ⟨a1, a2, a3⟩ := hA
  have hx8 := xf_13 h13 hx
  have h8 : 2 ^ rx_f (bx_w cd c) A 0 ≤ 2 ^ 13 := Nat.pow_le_pow_right (by omega) h13
  have hroom := bf_room hQ
  obtain ⟨q', hq1, hq2⟩ : ∃ q' : Nat → Nat, (∀ i, i < e → q' i = q i) ∧ q' e = x := ⟨fun i => if i = e then x else q i, fun i hi => if_neg (by omega), if_pos rfl⟩
  have push : (∀ i, i < e → q i ≠ x) → bf_Q (bx_w cd c) A q' (e + 1) ∧ bf_L (bx_w cd c) A q' (e + 1) h := fun hn => bf_push hQ hL hh hx hn hl hq1 hq2
  have ix : vp_in (nI x) 8192 := vp_in_nI hx8 (by omega)
  have cx : (nI x).toNatClampNeg = x := nI_clamp (by omega)
  unfold wpX_enqueue
  dsimp only
  rw [cx]
  refine pk_le 8192 x (fun g => absurd g (by omega)) (fun _ => pk_le 8192 e (fun g => h1 ?_) (fun g => ⟨ix, ?_⟩) rfl a1)
  · apply Classical.byContradiction
    intro hn
    have := bf_room (push (fun i hi hq => hn ⟨i, hi, hq⟩)).1
    omega
  · have ie : vp_in f_frontierEnd 8192 := by rw [a1]; exact vp_in_nI g (by omega)
    have ce : f_frontierEnd.toNatClampNeg = e := by rw [a1]; exact nI_clamp (by omega)
    rw [ce]
    refine br_c (fun hs => ⟨ix, nm_e ⟨ie, nm_e ⟨ie, nm_e (nm_e ?_)⟩⟩⟩) (fun hs => h1 ?_)
    · have hn := (a3 x hx).mp hs
      refine h2 q' _ _ _ _ hq1 hq2 (push hn).1 (push hn).2 ⟨by rw [a1, nI_1], fun i hi => ?_, fun y hy => ?_⟩
      · by_cases ei : i = e
        · subst ei
          rw [pk_us, pk_us, hq2]
          exact ⟨rfl, rfl⟩
        · rw [pk_un ei, pk_un ei, hq1 i (by omega)]
          exact a2 i (by omega)
      · by_cases ey : y = x
        · subst ey
          rw [pk_us]
          constructor
          · intro hz; exact absurd hz (by decide)
          · intro hz; exact absurd hq2 (hz e (by omega))
        · rw [pk_un ey, a3 y hy]
          constructor
          · intro hz i hi
            by_cases ei : i = e
            · rw [ei, hq2]; exact fun z => ey z.symm
            · rw [hq1 i (by omega)]; exact hz i (by omega)
          · intro hz i hi
            have := hz i (by omega)
            rw [← hq1 i hi]; exact this
    · apply Classical.byContradiction
      intro hn
      exact hs ((a3 x hx).mpr (fun i hi hq => hn ⟨i, hi, hq⟩))
theorem xf_expand_l (hA8 : A ≤ 8) (hfa : f_atoms = nI A) (h13 : rx_f (bx_w cd c) A 0 ≤ 13) (hc3 : ∀ a, a < A → -3 ≤ c a ∧ c a ≤ 3) (hB : xb_B A cd c a_coefficient a_fieldCap a_fieldShift) {q0 : Nat → Nat} {e0 h : Nat} (hh : h < e0) {x : Nat} (hx : x < 2 ^ rx_f (bx_w cd c) A 0) (hq0 : q0 h = x) {D : Int} (hD : di_sum c (rx_e (bx_w cd c) A x) A = D) (hDb : -72 ≤ D ∧ D ≤ 72) {post : SX → Prop}
    (hp : ∀ q e fe se fc fd, e0 ≤ e → (∀ i, i < e0 → q i = q0 i) → bf_Q (bx_w cd c) A q e → bf_L (bx_w cd c) A q e h → xf_A (bx_w cd c) A c q e fe se fc fd → (∀ b, b < A → bf_suc (bx_w cd c) A (bx_cap cd c) c x b → ∃ j, j < e ∧ q j = x + 2 ^ rx_s (bx_w cd c) A b) → post (f_bags, f_elems, f_maxBasis, f_maxWord, f_stage, f_currentMask, f_pendingWord, f_pendingLength, f_atoms, f_boxSize, f_liveSet, f_elementSet, fe, f_basisSize, f_knownCount, f_trailSize, a_atomCode, a_atomWord, a_leftTimes, a_rightTimes, a_coefficient, a_fieldCap, a_fieldShift, se, fc, fd, a_basisCode, a_cover, a_choice, a_covered, a_trailMark, a_nodeSymbol, a_nodeChild, a_atomNode, a_parent, a_weight, a_shape, a_least, a_trailNode, a_trailShape, a_trailLeast, a_thingBase, a_thingWord)) :
    ∀ n a q e fe se fc fd, a ≤ A → A < n + a → e0 ≤ e → (∀ i, i < e0 → q i = q0 i) → bf_Q (bx_w cd c) A q e → bf_L (bx_w cd c) A q e h → xf_A (bx_w cd c) A c q e fe se fc fd → (∀ b, b < a → bf_suc (bx_w cd c) A (bx_cap cd c) c x b → ∃ j, j < e ∧ q j = x + 2 ^ rx_s (bx_w cd c) A b) →
      wX_expand_2 post (nI x) (iI D) n (nI a) f_bags f_elems f_maxBasis f_maxWord f_stage f_currentMask f_pendingWord f_pendingLength f_atoms f_boxSize f_liveSet f_elementSet fe f_basisSize f_knownCount f_trailSize a_atomCode a_atomWord a_leftTimes a_rightTimes a_coefficient a_fieldCap a_fieldShift se fc fd a_basisCode a_cover a_choice a_covered a_trailMark a_nodeSymbol a_nodeChild a_atomNode a_parent a_weight a_shape a_least a_trailNode a_trailShape a_trailLeast a_thingBase a_thingWord := by
  have hx8 := xf_13 h13 hx
  intro n
  induction n with
  | zero => intro a q e fe se fc fd h1 h2; omega
  | succ n ih =>
    intro a q e fe se fc fd ha hn he hq hQ hL hAr hs
    unfold wX_expand_2
    refine pk_le A a (fun g => hp q e fe se fc fd he hq hQ hL hAr (fun b hb => hs b (by omega))) (fun g => ?_) hfa rfl
    have ia : vp_in (nI a) 8 := vp_in_nI (by omega) (by omega)
    have ca : (nI a).toNatClampNeg = a := nI_clamp (by omega)
    obtain ⟨b1, b2, b3⟩ := hB a g
    have hcap := bx_cap3 cd c a
    have hent := xb_e3 (cd := cd) (c := c) (A := A) x a
    have h13s := bx_s13 g h13
    obtain ⟨c1, c2⟩ := hc3 a g
    rw [ca, b1, b2]
    have nosuc : ¬ bf_suc (bx_w cd c) A (bx_cap cd c) c x a → wX_expand_2 post (nI x) (iI D) n (nI (a + 1)) f_bags f_elems f_maxBasis f_maxWord f_stage f_currentMask f_pendingWord f_pendingLength f_atoms f_boxSize f_liveSet f_elementSet fe f_basisSize f_knownCount f_trailSize a_atomCode a_atomWord a_leftTimes a_rightTimes a_coefficient a_fieldCap a_fieldShift se fc fd a_basisCode a_cover a_choice a_covered a_trailMark a_nodeSymbol a_nodeChild a_atomNode a_parent a_weight a_shape a_least a_trailNode a_trailShape a_trailLeast a_thingBase a_thingWord := by
      intro hno
      refine ih (a + 1) q e fe se fc fd (by omega) (by omega) he hq hQ hL hAr (fun b hb hsb => ?_)
      by_cases eb : b = a
      · subst eb; exact absurd hsb hno
      · exact hs b (by omega) hsb
    have suc : rx_e (bx_w cd c) A x a < bx_cap cd c a → wX_expand_48 post (wX_expand_2 post (nI x) (iI D) n) (nI x) (iI D) (nI a) (iI (c a)) f_bags f_elems f_maxBasis f_maxWord f_stage f_currentMask f_pendingWord f_pendingLength f_atoms f_boxSize f_liveSet f_elementSet fe f_basisSize f_knownCount f_trailSize a_atomCode a_atomWord a_leftTimes a_rightTimes a_coefficient a_fieldCap a_fieldShift se fc fd a_basisCode a_cover a_choice a_covered a_trailMark a_nodeSymbol a_nodeChild a_atomNode a_parent a_weight a_shape a_least a_trailNode a_trailShape a_trailLeast a_thingBase a_thingWord := by
      intro hlt
      obtain ⟨s1, s2, s3, s4, s5⟩ := bf_suc_step (c := c) (fun b _ => bx_capw cd c b) hx g hlt
      unfold wX_expand_48
      rw [ca, b3, ib_shl (show rx_s (bx_w cd c) A a < 31 by omega), nI_add, iI_add, ← hD, ← s5]
      refine ⟨ia, xf_enq h13 hQ hL (by omega) hAr s1 (by rw [s4, hq h hh, hq0]) (fun hex => nm_r (nI_1 a) ?_) (fun q' fe' se' fc' fd' e1 e2 hQ' hL' hA' => nm_r (nI_1 a) ?_)⟩
      · rw [hD]
        refine ih (a + 1) q e fe se fc fd (by omega) (by omega) he hq hQ hL hAr (fun b hb hsb => ?_)
        by_cases eb : b = a
        · subst eb; exact hex
        · exact hs b (by omega) hsb
      · rw [hD]
        refine ih (a + 1) q' (e + 1) fe' se' fc' fd' (by omega) (by omega) (by omega) (fun i hi => by rw [e1 i (by omega)]; exact hq i hi) hQ' hL' hA' (fun b hb hsb => ?_)
        by_cases eb : b = a
        · subst eb; exact ⟨e, by omega, e2⟩
        · obtain ⟨j, hj, ej⟩ := hs b (by omega) hsb
          exact ⟨j, by omega, by rw [e1 j hj]; exact ej⟩
    refine ⟨ia, nm_e (xb_entry hA8 h13 hB (by omega) g ⟨ia, ?_⟩)⟩
    refine pk_le (bx_cap cd c a) (rx_e (bx_w cd c) A x a) (fun g2 => nm_r (nI_1 a) (nosuc (fun q => by have := q.1; omega))) (fun g2 => ?_)
    by_cases hz : D = 0
    · exact br_t ((iI_eq0 (by omega) (by omega)).mpr hz) (suc g2)
    · refine br_f (fun q => hz ((iI_eq0 (by omega) (by omega)).mp q)) ?_
      rw [iI_mul]
      have hb : -216 ≤ c a * D ∧ c a * D ≤ 216 := by
        rcases (by omega : c a = -3 ∨ c a = -2 ∨ c a = -1 ∨ c a = 0 ∨ c a = 1 ∨ c a = 2 ∨ c a = 3) with z | z | z | z | z | z | z <;> rw [z] <;> constructor <;> omega
      by_cases hs0 : 0 ≤ c a * D
      · refine br_t ((iI_0le (by omega) (by omega)).mpr hs0) (nm_r (nI_1 a) (nosuc (fun q => ?_)))
        rcases q.2 with q2 | q2
        · rw [hD] at q2; exact hz q2
        · rw [hD] at q2; omega
      · exact br_f (fun q => hs0 ((iI_0le (by omega) (by omega)).mp q)) (suc g2)
theorem xf_D72 (hA8 : A ≤ 8) (hc3 : ∀ a, a < A → -3 ≤ c a ∧ c a ≤ 3) (x : Nat) : -72 ≤ di_sum c (rx_e (bx_w cd c) A x) A ∧ di_sum c (rx_e (bx_w cd c) A x) A ≤ 72 := by
  have key : ∀ n, n ≤ A → -(9 * (n : Int)) ≤ di_sum c (rx_e (bx_w cd c) A x) n ∧ di_sum c (rx_e (bx_w cd c) A x) n ≤ 9 * (n : Int) := by
    intro n
    induction n with
    | zero => intro _; exact ⟨by show -(9 * ((0 : Nat) : Int)) ≤ 0; omega, by show (0 : Int) ≤ 9 * ((0 : Nat) : Int); omega⟩
    | succ n ih =>
      intro hn
      have h1 := ih (by omega)
      have h2 := xb_e3 (cd := cd) (c := c) (A := A) x n
      obtain ⟨h3, h4⟩ := hc3 n (by omega)
      have h5 : -9 ≤ c n * ((rx_e (bx_w cd c) A x n : Nat) : Int) ∧ c n * ((rx_e (bx_w cd c) A x n : Nat) : Int) ≤ 9 := by
        rcases (by omega : rx_e (bx_w cd c) A x n = 0 ∨ rx_e (bx_w cd c) A x n = 1 ∨ rx_e (bx_w cd c) A x n = 2 ∨ rx_e (bx_w cd c) A x n = 3) with z | z | z | z <;> rw [z] <;> constructor <;> omega
      show -(9 * ((n + 1 : Nat) : Int)) ≤ di_sum c _ n + c n * _ ∧ di_sum c _ n + c n * _ ≤ 9 * ((n + 1 : Nat) : Int)
      omega
  have := key A (Nat.le_refl _)
  omega
/-- the outcome of the component's search for the basis -/
def xf_ok (A : Nat) (cd : Nat → Nat) (c : Nat → Int) (M : Nat) (fb : Int32) (bc : Nat → Int32) : Prop :=
  ∃ m bs, m ≤ M ∧ fb = nI m ∧ (∀ k, k < m → bc k = nI (bs k)) ∧ di_inc (bx_w cd c) A (bx_cap cd c) c bs m ∧ di_all (bx_w cd c) A (bx_cap cd c) c bs m
theorem xf_find_l (hA8 : A ≤ 8) (hfa : f_atoms = nI A) (h13 : rx_f (bx_w cd c) A 0 ≤ 13) (hc3 : ∀ a, a < A → -3 ≤ c a ∧ c a ≤ 3) (hB : xb_B A cd c a_coefficient a_fieldCap a_fieldShift) {M : Nat} (hM : M ≤ 12) (hfM : f_maxBasis = nI M) {post : Int32 → SX → Prop}
    (h1 : ∀ fe fb se fc fd bc, xf_ok A cd c M fb bc → post 1 (f_bags, f_elems, f_maxBasis, f_maxWord, f_stage, f_currentMask, f_pendingWord, f_pendingLength, f_atoms, f_boxSize, f_liveSet, f_elementSet, fe, fb, f_knownCount, f_trailSize, a_atomCode, a_atomWord, a_leftTimes, a_rightTimes, a_coefficient, a_fieldCap, a_fieldShift, se, fc, fd, bc, a_cover, a_choice, a_covered, a_trailMark, a_nodeSymbol, a_nodeChild, a_atomNode, a_parent, a_weight, a_shape, a_least, a_trailNode, a_trailShape, a_trailLeast, a_thingBase, a_thingWord))
    (h0 : ∀ fe fb se fc fd bc, di_more (bx_w cd c) A (bx_cap cd c) c M → post 0 (f_bags, f_elems, f_maxBasis, f_maxWord, f_stage, f_currentMask, f_pendingWord, f_pendingLength, f_atoms, f_boxSize, f_liveSet, f_elementSet, fe, fb, f_knownCount, f_trailSize, a_atomCode, a_atomWord, a_leftTimes, a_rightTimes, a_coefficient, a_fieldCap, a_fieldShift, se, fc, fd, bc, a_cover, a_choice, a_covered, a_trailMark, a_nodeSymbol, a_nodeChild, a_atomNode, a_parent, a_weight, a_shape, a_least, a_trailNode, a_trailShape, a_trailLeast, a_thingBase, a_thingWord)) :
    ∀ n h q e m bs fe fb se fc fd bc, h ≤ e → 8192 < n + h → m ≤ M → fb = nI m → (∀ k, k < m → bc k = nI (bs k)) → di_inc (bx_w cd c) A (bx_cap cd c) c bs m → bf_Q (bx_w cd c) A q e → (h < e → bf_L (bx_w cd c) A q e h) → xf_A (bx_w cd c) A c q e fe se fc fd → (∀ i, i < h → bf_D (bx_w cd c) A (bx_cap cd c) c q e bs m (q i)) →
      wX_findBasis_48 post n (nI h) f_bags f_elems f_maxBasis f_maxWord f_stage f_currentMask f_pendingWord f_pendingLength f_atoms f_boxSize f_liveSet f_elementSet fe fb f_knownCount f_trailSize a_atomCode a_atomWord a_leftTimes a_rightTimes a_coefficient a_fieldCap a_fieldShift se fc fd bc a_cover a_choice a_covered a_trailMark a_nodeSymbol a_nodeChild a_atomNode a_parent a_weight a_shape a_least a_trailNode a_trailShape a_trailLeast a_thingBase a_thingWord := by
  have hcap : ∀ b, b < A → bx_cap cd c b + 1 = 2 ^ bx_w cd c b := fun b _ => bx_capw cd c b
  have h8 : 2 ^ rx_f (bx_w cd c) A 0 ≤ 2 ^ 13 := Nat.pow_le_pow_right (by omega) h13
  intro n
  induction n with
  | zero =>
    intro h q e m bs fe fb se fc fd bc hh hn _ _ _ _ hQ
    have := bf_room hQ
    omega
  | succ n ih =>
    intro h q e m bs fe fb se fc fd bc hh hn hm hfb hbc hinc hQ hL hA hD
    have hroom := bf_room hQ
    unfold wX_findBasis_48
    refine pk_le e h (fun g => ?_) (fun g => pk_le 8192 h (fun g2 => absurd g2 (by omega)) (fun _ => ?_)) hA.1 rfl
    · refine h1 _ _ _ _ _ _ ⟨m, bs, hm, hfb, hbc, hinc, fun x hx hmin => bf_chain hcap hQ hD hinc hx hmin (Or.inl (by omega))⟩
    · have ih8 : vp_in (nI h) 8192 := vp_in_nI (by omega) (by omega)
      obtain ⟨q1, q2⟩ := hA.2.1 h g
      have hqh := hQ.2.2.1 h g
      have hx8 := xf_13 h13 hqh
      have hLh := hL g
      have hbs31 : ∀ k, k < m → bc k = nI (bs k) ∧ bs k < 2 ^ 31 := fun k hk => ⟨hbc k hk, by have := (hinc.1 k hk).1; omega⟩
      rw [nI_clamp (show h < 2 ^ 31 by omega), q1, q2]
      have hD72 := xf_D72 (cd := cd) hA8 hc3 (q h)
      have exp : ¬ di_sol A (bx_cap cd c) c (rx_e (bx_w cd c) A (q h)) → wX_findBasis_114 post (wX_findBasis_48 post n) (nI h) (nI (q h)) (iI (di_sum c (rx_e (bx_w cd c) A (q h)) A)) f_bags f_elems f_maxBasis f_maxWord f_stage f_currentMask f_pendingWord f_pendingLength f_atoms f_boxSize f_liveSet f_elementSet fe fb f_knownCount f_trailSize a_atomCode a_atomWord a_leftTimes a_rightTimes a_coefficient a_fieldCap a_fieldShift se fc fd bc a_cover a_choice a_covered a_trailMark a_nodeSymbol a_nodeChild a_atomNode a_parent a_weight a_shape a_least a_trailNode a_trailShape a_trailLeast a_thingBase a_thingWord := by
        intro hns
        unfold wX_findBasis_114
        refine ⟨A + 1, xf_expand_l hA8 hfa h13 hc3 hB (q0 := q) (e0 := e) (h := h) g hqh rfl rfl hD72 (fun q' e' fe' se' fc' fd' he hq hQ' hL' hA' hsuc => nm_r (nI_1 h) ?_) (A + 1) 0 q e _ _ _ _ (Nat.zero_le _) (by omega) (Nat.le_refl _) (fun _ _ => rfl) hQ hLh hA (fun b hb => absurd hb (Nat.not_lt_zero b))⟩
        refine ih (h + 1) q' e' m bs _ _ _ _ _ _ (by omega) (by omega) hm hfb hbc hinc hQ' (fun g3 => bf_L_next hQ' hL' g3) hA' (fun i hi => ?_)
        by_cases ei : i = h
        · subst ei
          rw [hq i g]
          exact Or.inr ⟨hns, hsuc⟩
        · rw [hq i (by omega)]
          exact bf_D_grow (hD i (by omega)) he hq
      refine ⟨ih8, nm_e ⟨ih8, nm_e (xb_above hA8 hfa h13 hB (show m ≤ 12 by omega) hfb hbs31 (show q h < 2 ^ 31 by omega) (fun hab => ?_) (fun hnb => ?_))⟩⟩
      · refine br_f (by decide) (nm_r (nI_1 h) (ih (h + 1) q e m bs _ _ _ _ _ _ (by omega) (by omega) hm hfb hbc hinc hQ (fun g3 => bf_L_next hQ hLh g3) hA (fun i hi => ?_)))
        by_cases ei : i = h
        · rw [ei]; exact Or.inl hab
        · exact hD i (by omega)
      · refine br_t rfl ?_
        refine pk_eq (q h) 0 (fun hz => ?_) (fun hz => ?_)
        · refine exp (fun hs => ?_)
          obtain ⟨⟨b, hb, hp⟩, _⟩ := hs
          rw [hz, bf_e0] at hp
          omega
        · by_cases hdz : di_sum c (rx_e (bx_w cd c) A (q h)) A = 0
          · refine br_t ((iI_eq0 (by omega) (by omega)).mpr hdz) ?_
            have hsol : di_sol A (bx_cap cd c) c (rx_e (bx_w cd c) A (q h)) := by
              refine ⟨?_, fun b hb => ?_, hdz⟩
              · apply Classical.byContradiction
                intro hno
                apply hz
                apply rx_ext (bx_w cd c) hqh (Nat.two_pow_pos _)
                intro b hb
                rw [bf_e0]
                apply Classical.byContradiction
                intro hnz
                exact hno ⟨b, hb, by omega⟩
              · have h3 := rx_e_lt (bx_w cd c) A (q h) b
                have h4 := hcap b hb
                omega
            have hmin := bf_min hcap hQ hD hinc g hsol hnb
            have hne : ∀ k, k < m → bs k ≠ q h := fun k hk hkq => hnb k hk (by rw [hkq]; exact fun b _ => Nat.le_refl _)
            refine pk_lt m M (fun hlt => ?_) (fun hge => ?_) hfb hfM
            · refine nm_r (e' := nI m + (-1)) (by rw [hfb, Int32.sub_eq_add_neg]) ⟨m + 1, ?_⟩
              have hins := xb_ins_l (f_bags := f_bags) (f_elems := f_elems) (f_maxBasis := f_maxBasis) (f_maxWord := f_maxWord) (f_stage := f_stage) (f_currentMask := f_currentMask) (f_pendingWord := f_pendingWord) (f_pendingLength := f_pendingLength) (f_atoms := f_atoms) (f_boxSize := f_boxSize) (f_liveSet := f_liveSet) (f_elementSet := f_elementSet) (f_frontierEnd := fe) (f_basisSize := fb) (f_knownCount := f_knownCount) (f_trailSize := f_trailSize) (a_atomCode := a_atomCode) (a_atomWord := a_atomWord) (a_leftTimes := a_leftTimes) (a_rightTimes := a_rightTimes) (a_coefficient := a_coefficient) (a_fieldCap := a_fieldCap) (a_fieldShift := a_fieldShift) (a_seen := se) (a_frontierCode := fc) (a_frontierDefect := fd) (a_cover := a_cover) (a_choice := a_choice) (a_covered := a_covered) (a_trailMark := a_trailMark) (a_nodeSymbol := a_nodeSymbol) (a_nodeChild := a_nodeChild) (a_atomNode := a_atomNode) (a_parent := a_parent) (a_weight := a_weight) (a_shape := a_shape) (a_least := a_least) (a_trailNode := a_trailNode) (a_trailShape := a_trailShape) (a_trailLeast := a_trailLeast) (a_thingBase := a_thingBase) (a_thingWord := a_thingWord) (m := m) (x := q h) (show m < 12 by omega) hfb (bs := bs) (fun k hk => (hbs31 k hk).2) (show q h < 2 ^ 31 by omega) hne (post := fun u => match u with | (f_bags, f_elems, f_maxBasis, f_maxWord, f_stage, f_currentMask, f_pendingWord, f_pendingLength, f_atoms, f_boxSize, f_liveSet, f_elementSet, f_frontierEnd, f_basisSize, f_knownCount, f_trailSize, a_atomCode, a_atomWord, a_leftTimes, a_rightTimes, a_coefficient, a_fieldCap, a_fieldShift, a_seen, a_frontierCode, a_frontierDefect, a_basisCode, a_cover, a_choice, a_covered, a_trailMark, a_nodeSymbol, a_nodeChild, a_atomNode, a_parent, a_weight, a_shape, a_least, a_trailNode, a_trailShape, a_trailLeast, a_thingBase, a_thingWord) => ∀ y : Int32, y = nI h + 1 → wX_findBasis_48 post n y f_bags f_elems f_maxBasis f_maxWord f_stage f_currentMask f_pendingWord f_pendingLength f_atoms f_boxSize f_liveSet f_elementSet f_frontierEnd f_basisSize f_knownCount f_trailSize a_atomCode a_atomWord a_leftTimes a_rightTimes a_coefficient a_fieldCap a_fieldShift a_seen a_frontierCode a_frontierDefect a_basisCode a_cover a_choice a_covered a_trailMark a_nodeSymbol a_nodeChild a_atomNode a_parent a_weight a_shape a_least a_trailNode a_trailShape a_trailLeast a_thingBase a_thingWord) ?_ (m + 1) m bc (Nat.le_refl _) (by omega) (fun k h1 h2 => by omega) hbc (fun k h1 h2 => by omega)
              · have hfb' : nI m = fb := hfb.symm
                rw [hfb'] at hins ⊢
                exact hins
              · intro p bc' hp hlo0 hlo hhi e1 e2 e3
                refine nm_r (nI_1 h) ?_
                have hlo' : ∀ k, k < p → bs k < q h := by
                  intro k hk
                  rcases hlo with z | z
                  · omega
                  · by_cases ek : k = p - 1
                    · rw [ek]; exact z
                    · have := hinc.2 k (p - 1) (by omega) (by omega); omega
                have hbsn : ∃ bs' : Nat → Nat, (∀ k, k < p → bs' k = bs k) ∧ bs' p = q h ∧ (∀ k, p < k → k < m + 1 → bs' k = bs (k - 1)) := ⟨fun k => if k < p then bs k else if k = p then q h else bs (k - 1), fun k hk => if_pos hk, by simp, fun k hk1 hk2 => by simp [show ¬ k < p by omega, show ¬ k = p by omega]⟩
                obtain ⟨bs', b1, b2, b3⟩ := hbsn
                obtain ⟨i1, i2⟩ := bf_ins hinc hqh hmin hp hlo' hhi b1 b2 b3
                refine ih (h + 1) q e (m + 1) bs' _ _ _ _ _ _ (by omega) (by omega) (by omega) rfl (fun k hk => ?_) i1 hQ (fun g3 => bf_L_next hQ hLh g3) hA (fun i hi => ?_)
                · rcases Nat.lt_trichotomy k p with z | z | z
                  · rw [e1 k z, b1 k z]
                  · rw [z, e2, b2]
                  · rw [e3 k z hk, b3 k z hk]
                · by_cases ei : i = h
                  · rw [ei]
                    exact Or.inl ⟨p, by omega, by rw [b2]; exact fun b _ => Nat.le_refl _⟩
                  · exact bf_D_basis (hD i (by omega)) i2
            · have : m = M := by omega
              subst this
              exact h0 _ _ _ _ _ _ (di_more_of hinc hqh hmin hne)
          · exact br_f (fun z => hdz ((iI_eq0 (by omega) (by omega)).mp z)) (exp (fun hs => hdz hs.2.2))
end XF
end
section
/-! the nodes of the atoms -/
def nd_V (A : Nat) (wd : Nat → List Nat) (cd : Nat → Nat) (x : Nat) : Prop := (x < 32 ∧ x / 4 < A ∧ cd (x / 4) < 20 ∧ x % 4 < (wd (x / 4)).length) ∨ (32 ≤ x ∧ x < 40)
def nd_t (wd : Nat → List Nat) (cd : Nat → Nat) (x : Nat) : ch_C := if x < 32 then ((wd (x / 4)).drop (x % 4), cd (x / 4)) else ([], x - 32)
def nd_y (wd : Nat → List Nat) (x : Nat) : Nat := (wd (x / 4)).getD (x % 4) 0
def nd_c (wd : Nat → List Nat) (cd : Nat → Nat) (x : Nat) : Nat := if (wd (x / 4)).length ≤ x % 4 + 1 then 32 + cd (x / 4) else x + 1
def nd_a (wd : Nat → List Nat) (cd : Nat → Nat) (a : Nat) : Nat := if (wd a).length = 0 then 32 + cd a else 4 * a
/-- what holds of the atoms -/
def fd_ok (A : Nat) (cd : Nat → Nat) (wd : Nat → List Nat) : Prop :=
  A ≤ 8 ∧ (∀ a, a < A → cd a < 25 ∧ (cd a < 20 → cd a < 8) ∧ (20 ≤ cd a → wd a = []) ∧ (wd a).length ≤ 3 ∧ wd_ok (wd a)) ∧ ∀ a b, a < A → b < A → cd a = cd b → wd a = wd b → a = b
theorem nd_S {A : Nat} {cd : Nat → Nat} {wd : Nat → List Nat} (h : fd_ok A cd wd) : un_S (nd_V A wd cd) (nd_t wd cd) (nd_y wd) (nd_c wd cd) := by
  refine ⟨fun x hx => ?_, fun x hx h3 => ?_, fun x h1 h2 => ⟨Or.inr ⟨h1, h2⟩, if_neg (by omega)⟩⟩
  · rcases hx with q | q <;> omega
  · rcases hx with ⟨_, q1, q2, q3⟩ | q
    · obtain ⟨_, p2, _, p4, _⟩ := h.2.1 _ q1
      have hcd := p2 q2
      have e1 : nd_t wd cd x = ((wd (x / 4)).drop (x % 4), cd (x / 4)) := if_pos h3
      have e2 : (wd (x / 4)).drop (x % 4) = nd_y wd x :: (wd (x / 4)).drop (x % 4 + 1) := by
        rw [List.drop_eq_getElem_cons q3]
        unfold nd_y
        rw [List.getD_eq_getElem?_getD, List.getElem?_eq_getElem q3]
        rfl
      by_cases g : (wd (x / 4)).length ≤ x % 4 + 1
      · have ec : nd_c wd cd x = 32 + cd (x / 4) := if_pos g
        have et : nd_t wd cd (32 + cd (x / 4)) = ([], cd (x / 4)) := by
          unfold nd_t
          rw [if_neg (by omega), show 32 + cd (x / 4) - 32 = cd (x / 4) from by omega]
        refine ⟨by omega, ?_, ?_⟩
        · rw [ec]; exact Or.inr ⟨by omega, by omega⟩
        · rw [e1, e2, ec, et, List.drop_eq_nil_of_le (by omega)]
          rfl
      · have ec : nd_c wd cd x = x + 1 := if_neg g
        have d1 : (x + 1) / 4 = x / 4 := by omega
        have d2 : (x + 1) % 4 = x % 4 + 1 := by omega
        refine ⟨by omega, ?_, ?_⟩
        · rw [ec]
          refine Or.inl ⟨by omega, ?_, ?_, ?_⟩
          · rw [d1]; exact q1
          · rw [d1]; exact q2
          · rw [d1, d2]; omega
        · have et : nd_t wd cd (x + 1) = ((wd (x / 4)).drop (x % 4 + 1), cd (x / 4)) := by
            unfold nd_t
            rw [if_pos (by omega), d1, d2]
          rw [e1, e2, ec, et]
          rfl
    · omega
theorem nd_atom {A : Nat} {cd : Nat → Nat} {wd : Nat → List Nat} (h : fd_ok A cd wd) {a : Nat} (ha : a < A) (hc : cd a < 20) : nd_V A wd cd (nd_a wd cd a) ∧ nd_t wd cd (nd_a wd cd a) = (wd a, cd a) := by
  obtain ⟨_, p2, _, p4, _⟩ := h.2.1 a ha
  have hcd := p2 hc
  have hA := h.1
  by_cases g : (wd a).length = 0
  · have e : nd_a wd cd a = 32 + cd a := if_pos g
    rw [e]
    refine ⟨Or.inr ⟨by omega, by omega⟩, ?_⟩
    unfold nd_t
    rw [if_neg (by omega), List.eq_nil_of_length_eq_zero g, show 32 + cd a - 32 = cd a from by omega]
  · have e : nd_a wd cd a = 4 * a := if_neg g
    have d1 : 4 * a / 4 = a := by omega
    have d2 : 4 * a % 4 = 0 := by omega
    rw [e]
    refine ⟨Or.inl ⟨by omega, by rw [d1]; exact ha, by rw [d1]; exact hc, by rw [d1, d2]; omega⟩, ?_⟩
    unfold nd_t
    rw [if_pos (by omega), d1, d2]
    rfl
theorem wd_div : ∀ (p : Nat) (w : List Nat), wd_ok w → wd_p w / 4 ^ p = wd_p (w.drop p)
  | 0, w, _ => by rw [Nat.pow_zero, Nat.div_one]; rfl
  | p + 1, [], _ => by
    show 0 / _ = 0
    exact Nat.zero_div _
  | p + 1, s :: w, h => by
    have h2 := h s List.mem_cons_self
    have ih := wd_div p w (fun x hx => h x (List.mem_cons_of_mem _ hx))
    show (s + 4 * wd_p w) / 4 ^ (p + 1) = wd_p (w.drop p)
    rw [Nat.pow_succ, Nat.mul_comm (4 ^ p) 4, ← Nat.div_div_eq_div_mul, show (s + 4 * wd_p w) / 4 = wd_p w from by omega]
    exact ih
theorem wd_0 {w : List Nat} (h : wd_ok w) : wd_p w = 0 ↔ w = [] := by
  cases w with
  | nil => exact ⟨fun _ => rfl, fun _ => rfl⟩
  | cons s w =>
    have h2 := h s List.mem_cons_self
    constructor
    · intro e
      have e' : s + 4 * wd_p w = 0 := e
      omega
    · intro e; exact absurd e (List.cons_ne_nil _ _)
theorem wd_drop_ok {w : List Nat} (h : wd_ok w) (p : Nat) : wd_ok (w.drop p) := fun s hs => h s (List.mem_of_mem_drop hs)
theorem wd_rest {w : List Nat} (h : wd_ok w) (p : Nat) : wd_p w / 4 ^ p = 0 ↔ w.length ≤ p := by
  rw [wd_div p w h, wd_0 (wd_drop_ok h p), List.drop_eq_nil_iff]
theorem wd_64 {w : List Nat} (h : wd_ok w) (hl : w.length ≤ 3) : wd_p w < 64 := by
  have h1 := wd_lt h
  have h2 : 4 ^ w.length ≤ 4 ^ 3 := Nat.pow_le_pow_right (by omega) hl
  omega
end
section
/-! the component's solve -/
section XV
variable {f_bags f_elems f_maxBasis f_maxWord f_stage f_currentMask f_pendingWord f_pendingLength f_atoms f_boxSize f_liveSet f_elementSet f_frontierEnd f_basisSize f_knownCount f_trailSize : Int32} {a_atomCode a_atomWord a_leftTimes a_rightTimes a_coefficient a_fieldCap a_fieldShift a_seen a_frontierCode a_frontierDefect a_basisCode a_cover a_choice a_covered a_trailMark a_nodeSymbol a_nodeChild a_atomNode a_parent a_weight a_shape a_least a_trailNode a_trailShape a_trailLeast a_thingBase : Nat → Int32} {a_thingWord : Nat → Int64}
variable {A : Nat} {cd : Nat → Nat} {c : Nat → Int}
theorem xv_find_35 (hA8 : A ≤ 8) (hfa : f_atoms = nI A) (h13 : rx_f (bx_w cd c) A 0 ≤ 13) (hc3 : ∀ a, a < A → -3 ≤ c a ∧ c a ≤ 3) (hB : xb_B A cd c a_coefficient a_fieldCap a_fieldShift) {M : Nat} (hM : M ≤ 12) (hfM : f_maxBasis = nI M) (hfb : f_basisSize = 0) (hse : ∀ x, x < 2 ^ rx_f (bx_w cd c) A 0 → a_seen x = 0) {post : Int32 → SX → Prop}
    (h1 : ∀ fe fb se fc fd bc, xf_ok A cd c M fb bc → post 1 (f_bags, f_elems, f_maxBasis, f_maxWord, f_stage, f_currentMask, f_pendingWord, f_pendingLength, f_atoms, f_boxSize, f_liveSet, f_elementSet, fe, fb, f_knownCount, f_trailSize, a_atomCode, a_atomWord, a_leftTimes, a_rightTimes, a_coefficient, a_fieldCap, a_fieldShift, se, fc, fd, bc, a_cover, a_choice, a_covered, a_trailMark, a_nodeSymbol, a_nodeChild, a_atomNode, a_parent, a_weight, a_shape, a_least, a_trailNode, a_trailShape, a_trailLeast, a_thingBase, a_thingWord))
    (h0 : ∀ fe fb se fc fd bc, di_more (bx_w cd c) A (bx_cap cd c) c M → post 0 (f_bags, f_elems, f_maxBasis, f_maxWord, f_stage, f_currentMask, f_pendingWord, f_pendingLength, f_atoms, f_boxSize, f_liveSet, f_elementSet, fe, fb, f_knownCount, f_trailSize, a_atomCode, a_atomWord, a_leftTimes, a_rightTimes, a_coefficient, a_fieldCap, a_fieldShift, se, fc, fd, bc, a_cover, a_choice, a_covered, a_trailMark, a_nodeSymbol, a_nodeChild, a_atomNode, a_parent, a_weight, a_shape, a_least, a_trailNode, a_trailShape, a_trailLeast, a_thingBase, a_thingWord)) :
    wX_findBasis_35 post f_bags f_elems f_maxBasis f_maxWord f_stage f_currentMask f_pendingWord f_pendingLength f_atoms f_boxSize f_liveSet f_elementSet f_frontierEnd f_basisSize f_knownCount f_trailSize a_atomCode a_atomWord a_leftTimes a_rightTimes a_coefficient a_fieldCap a_fieldShift a_seen a_frontierCode a_frontierDefect a_basisCode a_cover a_choice a_covered a_trailMark a_nodeSymbol a_nodeChild a_atomNode a_parent a_weight a_shape a_least a_trailNode a_trailShape a_trailLeast a_thingBase a_thingWord := by
  have hp := Nat.two_pow_pos (rx_f (bx_w cd c) A 0)
  unfold wX_findBasis_35
  have c0 : (0 : Int32).toNatClampNeg = 0 := by decide
  have i0 : vp_in 0 8192 := vp_in_nI (n := 0) (by omega) (by omega)
  refine br_f (by decide) (br_f (by decide) ⟨i0, ?_⟩)
  rw [c0]
  refine br_t (hse 0 hp) ⟨i0, nm_e ⟨i0, nm_e ⟨i0, nm_e (nm_e ⟨8193, ?_⟩)⟩⟩⟩
  have hQ : bf_Q (bx_w cd c) A (fun _ => 0) 1 := ⟨by omega, rfl, fun i _ => hp, fun i j h1 h2 => by omega⟩
  refine xf_find_l hA8 hfa h13 hc3 hB hM hfM h1 h0 8193 0 (fun _ => 0) 1 0 (fun _ => 0) _ _ _ _ _ _ (by omega) (by omega) (Nat.zero_le _) hfb (fun k hk => absurd hk (Nat.not_lt_zero k)) ⟨fun k hk => absurd hk (Nat.not_lt_zero k), fun i j _ hj => absurd hj (Nat.not_lt_zero j)⟩ hQ (fun _ j hj => ?_) ⟨rfl, fun i hi => ?_, fun x hx => ?_⟩ (fun i hi => absurd hi (Nat.not_lt_zero i))
  · exact Nat.le_succ _
  · have : i = 0 := by omega
    subst this
    rw [pk_us, pk_us, di_sum_0 A (fun b _ => bf_e0 b)]
    exact ⟨rfl, rfl⟩
  · by_cases e : x = 0
    · subst e
      rw [pk_us]
      exact ⟨fun q => absurd q (by decide), fun q => absurd rfl (q 0 (by omega))⟩
    · rw [pk_un e]
      exact ⟨fun _ i _ => fun z => e z.symm, fun _ => hse x hx⟩
theorem xv_find_7 (hA8 : A ≤ 8) (hfa : f_atoms = nI A) (h13 : rx_f (bx_w cd c) A 0 ≤ 13) (hc3 : ∀ a, a < A → -3 ≤ c a ∧ c a ≤ 3) (hB : xb_B A cd c a_coefficient a_fieldCap a_fieldShift) {M : Nat} (hM : M ≤ 12) (hfM : f_maxBasis = nI M) (hfb : f_basisSize = 0) (hbx : f_boxSize = nI (2 ^ rx_f (bx_w cd c) A 0)) {post : Int32 → SX → Prop}
    (h1 : ∀ fe fb se fc fd bc, xf_ok A cd c M fb bc → post 1 (f_bags, f_elems, f_maxBasis, f_maxWord, f_stage, f_currentMask, f_pendingWord, f_pendingLength, f_atoms, f_boxSize, f_liveSet, f_elementSet, fe, fb, f_knownCount, f_trailSize, a_atomCode, a_atomWord, a_leftTimes, a_rightTimes, a_coefficient, a_fieldCap, a_fieldShift, se, fc, fd, bc, a_cover, a_choice, a_covered, a_trailMark, a_nodeSymbol, a_nodeChild, a_atomNode, a_parent, a_weight, a_shape, a_least, a_trailNode, a_trailShape, a_trailLeast, a_thingBase, a_thingWord))
    (h0 : ∀ fe fb se fc fd bc, di_more (bx_w cd c) A (bx_cap cd c) c M → post 0 (f_bags, f_elems, f_maxBasis, f_maxWord, f_stage, f_currentMask, f_pendingWord, f_pendingLength, f_atoms, f_boxSize, f_liveSet, f_elementSet, fe, fb, f_knownCount, f_trailSize, a_atomCode, a_atomWord, a_leftTimes, a_rightTimes, a_coefficient, a_fieldCap, a_fieldShift, se, fc, fd, bc, a_cover, a_choice, a_covered, a_trailMark, a_nodeSymbol, a_nodeChild, a_atomNode, a_parent, a_weight, a_shape, a_least, a_trailNode, a_trailShape, a_trailLeast, a_thingBase, a_thingWord)) :
    ∀ n i se, i ≤ 2 ^ rx_f (bx_w cd c) A 0 → 2 ^ rx_f (bx_w cd c) A 0 < n + i → (∀ x, x < i → se x = 0) → wX_findBasis_7 post f_bags f_elems f_maxBasis f_maxWord f_stage f_currentMask f_pendingWord f_pendingLength f_atoms f_boxSize f_liveSet f_elementSet f_frontierEnd f_basisSize f_knownCount f_trailSize n (nI i) a_atomCode a_atomWord a_leftTimes a_rightTimes a_coefficient a_fieldCap a_fieldShift se a_frontierCode a_frontierDefect a_basisCode a_cover a_choice a_covered a_trailMark a_nodeSymbol a_nodeChild a_atomNode a_parent a_weight a_shape a_least a_trailNode a_trailShape a_trailLeast a_thingBase a_thingWord := by
  have h8 : 2 ^ rx_f (bx_w cd c) A 0 ≤ 2 ^ 13 := Nat.pow_le_pow_right (by omega) h13
  intro n
  induction n with
  | zero => intro i se h1 h2; omega
  | succ n ih =>
    intro i se hi hn hse
    unfold wX_findBasis_7
    refine pk_le (2 ^ rx_f (bx_w cd c) A 0) i (fun g => xv_find_35 hA8 hfa h13 hc3 hB hM hfM hfb (fun x hx => hse x (by omega)) h1 h0) (fun g => pk_le 8192 i (fun g2 => absurd g2 (by omega)) (fun _ => ⟨vp_in_nI (by omega) (by omega), nm_e (nm_r (nI_1 i) ?_)⟩)) hbx rfl
    rw [nI_clamp (show i < 2 ^ 31 by omega)]
    refine ih (i + 1) _ (by omega) (by omega) (fun x hx => ?_)
    by_cases e : x = i
    · rw [e, pk_us]; decide
    · rw [pk_un e]; exact hse x (by omega)
/-! covers -/
theorem xv_cov_14 (hA8 : A ≤ 8) (hfa : f_atoms = nI A) (h13 : rx_f (bx_w cd c) A 0 ≤ 13) (hB : xb_B A cd c a_coefficient a_fieldCap a_fieldShift) {k x : Nat} (hk : k < 12) (hbc : a_basisCode k = nI x) (hx : x < 2 ^ 31) {post : SX → Prop} {J : Int32 → (Nat → Int32) → (Nat → Int32) → (Nat → Int32) → (Nat → Int32) → (Nat → Int32) → (Nat → Int32) → (Nat → Int32) → (Nat → Int32) → (Nat → Int32) → (Nat → Int32) → (Nat → Int32) → (Nat → Int32) → (Nat → Int32) → (Nat → Int32) → (Nat → Int32) → (Nat → Int32) → (Nat → Int32) → (Nat → Int32) → (Nat → Int32) → (Nat → Int32) → (Nat → Int32) → (Nat → Int32) → (Nat → Int32) → (Nat → Int32) → (Nat → Int32) → (Nat → Int32) → (Nat → Int64) → Prop}
    (h : J (nI (k + 1)) a_atomCode a_atomWord a_leftTimes a_rightTimes a_coefficient a_fieldCap a_fieldShift a_seen a_frontierCode a_frontierDefect a_basisCode (upd a_cover k (nI (bx_cov (rx_e (bx_w cd c) A x) A))) a_choice a_covered a_trailMark a_nodeSymbol a_nodeChild a_atomNode a_parent a_weight a_shape a_least a_trailNode a_trailShape a_trailLeast a_thingBase a_thingWord) :
    ∀ n a, a ≤ A → A < n + a → wX_prepareCovers_14 post J (nI k) f_bags f_elems f_maxBasis f_maxWord f_stage f_currentMask f_pendingWord f_pendingLength f_atoms f_boxSize f_liveSet f_elementSet f_frontierEnd f_basisSize f_knownCount f_trailSize a_atomCode a_atomWord a_leftTimes a_rightTimes a_coefficient a_fieldCap a_fieldShift a_seen a_frontierCode a_frontierDefect a_basisCode a_cover a_choice a_covered a_trailMark a_nodeSymbol a_nodeChild a_atomNode a_parent a_weight a_shape a_least a_trailNode a_trailShape a_trailLeast a_thingBase a_thingWord n (nI (bx_cov (rx_e (bx_w cd c) A x) a)) (nI a) := by
  have ik : vp_in (nI k) 12 := vp_in_nI hk (by omega)
  have ck : (nI k).toNatClampNeg = k := nI_clamp (by omega)
  intro n
  induction n with
  | zero => intro a h1 h2; omega
  | succ n ih =>
    intro a ha hn
    unfold wX_prepareCovers_14
    rw [ck]
    refine pk_le A a (fun g => ⟨ik, nm_e (nm_r (nI_1 k) ?_)⟩) (fun g => ⟨ik, ?_⟩) hfa rfl
    · have : a = A := by omega
      rw [this]; exact h
    · rw [hbc]
      have he := xb_e3 (cd := cd) (c := c) (A := A) x a
      refine xb_entry hA8 h13 hB hx g ?_
      have hs : bx_cov (rx_e (bx_w cd c) A x) (a + 1) = if 0 < rx_e (bx_w cd c) A x a then bx_cov (rx_e (bx_w cd c) A x) a ||| 2 ^ a else bx_cov (rx_e (bx_w cd c) A x) a := rfl
      refine pk_le (rx_e (bx_w cd c) A x a) 0 (fun g2 => nm_r (nI_1 a) ?_) (fun g2 => ?_)
      · rw [if_neg (by omega)] at hs
        rw [← hs]
        exact ih (a + 1) (by omega) (by omega)
      · rw [if_pos g2] at hs
        rw [ib_shl (show a < 31 by omega), ib_or, ← hs]
        exact nm_e (nm_r (nI_1 a) (ih (a + 1) (by omega) (by omega)))
theorem xv_cov (hA8 : A ≤ 8) (hfa : f_atoms = nI A) (h13 : rx_f (bx_w cd c) A 0 ≤ 13) (hB : xb_B A cd c a_coefficient a_fieldCap a_fieldShift) {m : Nat} (hm : m ≤ 12) (hfb : f_basisSize = nI m) {bs : Nat → Nat} (hbc : ∀ k, k < m → a_basisCode k = nI (bs k) ∧ bs k < 2 ^ 31) {post : SX → Prop}
    (h : ∀ co, (∀ k, k < m → co k = nI (bx_cov (rx_e (bx_w cd c) A (bs k)) A)) → post (f_bags, f_elems, f_maxBasis, f_maxWord, f_stage, f_currentMask, f_pendingWord, f_pendingLength, f_atoms, f_boxSize, f_liveSet, f_elementSet, f_frontierEnd, f_basisSize, f_knownCount, f_trailSize, a_atomCode, a_atomWord, a_leftTimes, a_rightTimes, a_coefficient, a_fieldCap, a_fieldShift, a_seen, a_frontierCode, a_frontierDefect, a_basisCode, co, a_choice, a_covered, a_trailMark, a_nodeSymbol, a_nodeChild, a_atomNode, a_parent, a_weight, a_shape, a_least, a_trailNode, a_trailShape, a_trailLeast, a_thingBase, a_thingWord)) : ∀ n k co, k ≤ m → m < n + k → (∀ j, j < k → co j = nI (bx_cov (rx_e (bx_w cd c) A (bs j)) A)) → wX_prepareCovers_2 post f_bags f_elems f_maxBasis f_maxWord f_stage f_currentMask f_pendingWord f_pendingLength f_atoms f_boxSize f_liveSet f_elementSet f_frontierEnd f_basisSize f_knownCount f_trailSize n (nI k) a_atomCode a_atomWord a_leftTimes a_rightTimes a_coefficient a_fieldCap a_fieldShift a_seen a_frontierCode a_frontierDefect a_basisCode co a_choice a_covered a_trailMark a_nodeSymbol a_nodeChild a_atomNode a_parent a_weight a_shape a_least a_trailNode a_trailShape a_trailLeast a_thingBase a_thingWord := by
  intro n
  induction n with
  | zero => intro k co h1 h2; omega
  | succ n ih =>
    intro k co hk hn hco
    unfold wX_prepareCovers_2
    refine pk_le m k (fun g => h co (fun j hj => hco j (by omega))) (fun g => ⟨A + 1, ?_⟩) hfb rfl
    refine xv_cov_14 hA8 hfa h13 hB (show k < 12 by omega) (hbc k g).1 (hbc k g).2 (ih (k + 1) _ (by omega) (by omega) (fun j hj => ?_)) (A + 1) 0 (Nat.zero_le _) (by omega)
    by_cases e : j = k
    · rw [e, pk_us]
    · rw [pk_un e]; exact hco j (by omega)
end XV
end
section
/-! the component's nodes, and its solve as a whole -/
def xn_at (wd : Nat → List Nat) (cd : Nat → Nat) (b p : Nat) (ns nch : Nat → Int32) : Prop := ns (4 * b + p) = nI ((wd b).getD p 0) ∧ nch (4 * b + p) = nI (if (wd b).length ≤ p + 1 then 32 + cd b else 4 * b + p + 1)
def xn_N (A : Nat) (wd : Nat → List Nat) (cd : Nat → Nat) (n : Nat) (ns nch ano : Nat → Int32) : Prop := ∀ b, b < n → b < A → (cd b < 20 → ano b = nI (nd_a wd cd b) ∧ ∀ p, p < 3 → xn_at wd cd b p ns nch) ∧ (20 ≤ cd b → ano b = -1)
section XN
variable {f_bags f_elems f_maxBasis f_maxWord f_stage f_currentMask f_pendingWord f_pendingLength f_atoms f_boxSize f_liveSet f_elementSet f_frontierEnd f_basisSize f_knownCount f_trailSize : Int32} {a_atomCode a_atomWord a_leftTimes a_rightTimes a_coefficient a_fieldCap a_fieldShift a_seen a_frontierCode a_frontierDefect a_basisCode a_cover a_choice a_covered a_trailMark a_nodeSymbol a_nodeChild a_atomNode a_parent a_weight a_shape a_least a_trailNode a_trailShape a_trailLeast a_thingBase : Nat → Int32} {a_thingWord : Nat → Int64}
variable {A : Nat} {cd : Nat → Nat} {wd : Nat → List Nat}
theorem xn_65 {a : Nat} (hA8 : A ≤ 8) (ha : a < A) (hw : wd_ok (wd a)) (hl : (wd a).length ≤ 3) (hcd : cd a < 8) {post : SX → Prop} {J : Int32 → (Nat → Int32) → (Nat → Int32) → (Nat → Int32) → (Nat → Int32) → (Nat → Int32) → (Nat → Int32) → (Nat → Int32) → (Nat → Int32) → (Nat → Int32) → (Nat → Int32) → (Nat → Int32) → (Nat → Int32) → (Nat → Int32) → (Nat → Int32) → (Nat → Int32) → (Nat → Int32) → (Nat → Int32) → (Nat → Int32) → (Nat → Int32) → (Nat → Int32) → (Nat → Int32) → (Nat → Int32) → (Nat → Int32) → (Nat → Int32) → (Nat → Int32) → (Nat → Int32) → (Nat → Int64) → Prop}
    {ns0 nch0 : Nat → Int32} (h : ∀ ns nch, (∀ p, p < 3 → xn_at wd cd a p ns nch) → (∀ j, (j < 4 * a ∨ 4 * a + 3 ≤ j) → ns j = ns0 j ∧ nch j = nch0 j) → J (nI (a + 1)) a_atomCode a_atomWord a_leftTimes a_rightTimes a_coefficient a_fieldCap a_fieldShift a_seen a_frontierCode a_frontierDefect a_basisCode a_cover a_choice a_covered a_trailMark ns nch a_atomNode a_parent a_weight a_shape a_least a_trailNode a_trailShape a_trailLeast a_thingBase a_thingWord) :
    ∀ n p ns nch, p ≤ 3 → 3 < n + p → (∀ q, q < p → xn_at wd cd a q ns nch) → (∀ j, (j < 4 * a ∨ 4 * a + 3 ≤ j) → ns j = ns0 j ∧ nch j = nch0 j) → wX_buildNodes_65 post J (nI a) (nI (32 + cd a)) (nI (wd_p (wd a))) f_bags f_elems f_maxBasis f_maxWord f_stage f_currentMask f_pendingWord f_pendingLength f_atoms f_boxSize f_liveSet f_elementSet f_frontierEnd f_basisSize f_knownCount f_trailSize n (nI p) a_atomCode a_atomWord a_leftTimes a_rightTimes a_coefficient a_fieldCap a_fieldShift a_seen a_frontierCode a_frontierDefect a_basisCode a_cover a_choice a_covered a_trailMark ns nch a_atomNode a_parent a_weight a_shape a_least a_trailNode a_trailShape a_trailLeast a_thingBase a_thingWord := by
  have h64 := wd_64 hw hl
  intro n
  induction n with
  | zero => intro p ns nch h1 h2; omega
  | succ n ih =>
    intro p ns nch hp hn hq hk
    unfold wX_buildNodes_65
    refine pk_le 3 p (fun g => nm_r (nI_1 a) (h ns nch (fun q hq' => hq q (by omega)) hk)) (fun g => ?_)
    have ei : (4 * nI a) + nI p = nI (4 * a + p) := by
      rw [show (4 : Int32) * nI a = nI (4 * a) from pk_mul 4 a, nI_add]
    have ii : vp_in (nI (4 * a + p)) 40 := vp_in_nI (by omega) (by omega)
    have ci : (nI (4 * a + p)).toNatClampNeg = 4 * a + p := nI_clamp (by omega)
    have e1 : nI (wd_p (wd a)) >>> (((2 * nI p) + 2) &&& 31) = nI (wd_p (wd a) / 4 ^ (p + 1)) := by
      rw [ib_2m, show nI (2 * p) + 2 = nI (2 * p + 2) from nI_add (2 * p) 2, ib_shr (by omega) (by omega), show 2 * p + 2 = 2 * (p + 1) from by omega, Nat.pow_mul]
    have e2 : (nI (wd_p (wd a)) >>> ((2 * nI p) &&& 31)) &&& 3 = nI ((wd a).getD p 0) := by
      rw [ib_2m, ib_shr (by omega) (by omega), ib_and3 (Nat.lt_of_le_of_lt (Nat.div_le_self _ _) (by omega)), Nat.pow_mul, ← wd_digit p (wd a) hw]
    have hrest := wd_rest hw (p + 1)
    have hle : wd_p (wd a) / 4 ^ (p + 1) ≤ wd_p (wd a) := Nat.div_le_self _ _
    rw [ei, ci, e1, e2]
    refine nm_e ⟨ii, nm_e ?_⟩
    have step : ∀ v, v = (if (wd a).length ≤ p + 1 then 32 + cd a else 4 * a + p + 1) → wX_buildNodes_65 post J (nI a) (nI (32 + cd a)) (nI (wd_p (wd a))) f_bags f_elems f_maxBasis f_maxWord f_stage f_currentMask f_pendingWord f_pendingLength f_atoms f_boxSize f_liveSet f_elementSet f_frontierEnd f_basisSize f_knownCount f_trailSize n (nI (p + 1)) a_atomCode a_atomWord a_leftTimes a_rightTimes a_coefficient a_fieldCap a_fieldShift a_seen a_frontierCode a_frontierDefect a_basisCode a_cover a_choice a_covered a_trailMark (upd ns (4 * a + p) (nI ((wd a).getD p 0))) (upd nch (4 * a + p) (nI v)) a_atomNode a_parent a_weight a_shape a_least a_trailNode a_trailShape a_trailLeast a_thingBase a_thingWord := by
      intro v hv
      subst hv
      refine ih (p + 1) _ _ (by omega) (by omega) (fun q hq' => ?_) (fun j hj => ?_)
      · by_cases e : q = p
        · subst e
          exact ⟨pk_us, pk_us⟩
        · unfold xn_at
          rw [pk_un (by omega), pk_un (by omega)]
          exact hq q (by omega)
      · rw [pk_un (by omega), pk_un (by omega)]
        exact hk j hj
    refine pk_eq (wd_p (wd a) / 4 ^ (p + 1)) 0 (fun g2 => ⟨ii, nm_e (nm_r (nI_1 p) (step _ ?_))⟩) (fun g2 => ⟨ii, ?_⟩)
    · rw [if_pos (hrest.mp g2)]
    · rw [nI_1]
      exact nm_e (nm_r (nI_1 p) (step _ (by rw [if_neg (fun z => g2 (hrest.mpr z))])))
theorem xn_build (hfd : fd_ok A cd wd) (hfa : f_atoms = nI A) (hcd : ∀ a, a < A → a_atomCode a = nI (cd a)) (hwd : ∀ a, a < A → a_atomWord a = nI (wd_p (wd a))) {post : SX → Prop}
    (h : ∀ ns nch ano, xn_N A wd cd A ns nch ano → post (f_bags, f_elems, f_maxBasis, f_maxWord, f_stage, f_currentMask, f_pendingWord, f_pendingLength, f_atoms, f_boxSize, f_liveSet, f_elementSet, f_frontierEnd, f_basisSize, f_knownCount, f_trailSize, a_atomCode, a_atomWord, a_leftTimes, a_rightTimes, a_coefficient, a_fieldCap, a_fieldShift, a_seen, a_frontierCode, a_frontierDefect, a_basisCode, a_cover, a_choice, a_covered, a_trailMark, ns, nch, ano, a_parent, a_weight, a_shape, a_least, a_trailNode, a_trailShape, a_trailLeast, a_thingBase, a_thingWord)) : ∀ n a ns nch ano, a ≤ A → A < n + a → xn_N A wd cd a ns nch ano → wX_buildNodes_2 post f_bags f_elems f_maxBasis f_maxWord f_stage f_currentMask f_pendingWord f_pendingLength f_atoms f_boxSize f_liveSet f_elementSet f_frontierEnd f_basisSize f_knownCount f_trailSize n (nI a) a_atomCode a_atomWord a_leftTimes a_rightTimes a_coefficient a_fieldCap a_fieldShift a_seen a_frontierCode a_frontierDefect a_basisCode a_cover a_choice a_covered a_trailMark ns nch ano a_parent a_weight a_shape a_least a_trailNode a_trailShape a_trailLeast a_thingBase a_thingWord := by
  have hA8 := hfd.1
  intro n
  induction n with
  | zero => intro a ns nch ano h1 h2; omega
  | succ n ih =>
    intro a ns nch ano ha hn hx
    unfold wX_buildNodes_2
    refine pk_le A a (fun g => h ns nch ano (fun b hb hbA => hx b (by omega) hbA)) (fun g => ?_) hfa rfl
    have ia : vp_in (nI a) 8 := vp_in_nI (by omega) (by omega)
    have ca : (nI a).toNatClampNeg = a := nI_clamp (by omega)
    obtain ⟨p1, p2, p3, p4, p5⟩ := hfd.2.1 a g
    have h64 := wd_64 p5 p4
    refine ⟨ia, ?_⟩
    rw [ca, hcd a g, hwd a g]
    refine pk_lt (cd a) 20 (fun g2 => br_t rfl ⟨ia, nm_r (e' := nI (32 + cd a)) (nI_add 32 (cd a)) ⟨ia, nm_e ?_⟩⟩) (fun g2 => br_f (by decide) ⟨ia, nm_e (nm_r (nI_1 a) ?_)⟩)
    · have fin : ∀ v, v = nd_a wd cd a → wX_buildNodes_65 post (wX_buildNodes_2 post f_bags f_elems f_maxBasis f_maxWord f_stage f_currentMask f_pendingWord f_pendingLength f_atoms f_boxSize f_liveSet f_elementSet f_frontierEnd f_basisSize f_knownCount f_trailSize n) (nI a) (nI (32 + cd a)) (nI (wd_p (wd a))) f_bags f_elems f_maxBasis f_maxWord f_stage f_currentMask f_pendingWord f_pendingLength f_atoms f_boxSize f_liveSet f_elementSet f_frontierEnd f_basisSize f_knownCount f_trailSize 4 (nI 0) a_atomCode a_atomWord a_leftTimes a_rightTimes a_coefficient a_fieldCap a_fieldShift a_seen a_frontierCode a_frontierDefect a_basisCode a_cover a_choice a_covered a_trailMark ns nch (upd ano a (nI v)) a_parent a_weight a_shape a_least a_trailNode a_trailShape a_trailLeast a_thingBase a_thingWord := by
        intro v hv
        subst hv
        refine xn_65 (ns0 := ns) (nch0 := nch) hA8 g p5 p4 (p2 g2) (fun ns' nch' hn1 hn2 => ih (a + 1) ns' nch' _ (by omega) (by omega) (fun b hb hbA => ?_)) 4 0 ns nch (by omega) (by omega) (fun q hq => absurd hq (Nat.not_lt_zero q)) (fun _ _ => ⟨rfl, rfl⟩)
        by_cases e : b = a
        · subst e
          exact ⟨fun _ => ⟨pk_us, hn1⟩, fun z => by omega⟩
        · obtain ⟨q1, q2⟩ := hx b (by omega) hbA
          rw [pk_un e]
          refine ⟨fun z => ⟨(q1 z).1, fun p hp => ?_⟩, q2⟩
          obtain ⟨r1, r2⟩ := (q1 z).2 p hp
          obtain ⟨s1, s2⟩ := hn2 (4 * b + p) (by omega)
          exact ⟨s1.trans r1, s2.trans r2⟩
      refine pk_eq (wd_p (wd a)) 0 (fun g3 => ⟨ia, nm_e ⟨4, fin _ ?_⟩⟩) (fun g3 => ⟨ia, ?_⟩)
      · unfold nd_a
        rw [(wd_0 p5).mp g3]
        rfl
      · rw [show (4 : Int32) * nI a = nI (4 * a) from pk_mul 4 a]
        refine nm_e ⟨4, fin _ ?_⟩
        unfold nd_a
        rw [if_neg (fun z => g3 ((wd_0 p5).mpr (List.eq_nil_of_length_eq_zero z)))]
    · refine ih (a + 1) ns nch _ (by omega) (by omega) (fun b hb hbA => ?_)
      by_cases e : b = a
      · subst e
        exact ⟨fun z => by omega, fun _ => pk_us⟩
      · rw [pk_un e]
        exact hx b (by omega) hbA
theorem xn_toN (hfd : fd_ok A cd wd) {ns nch ano : Nat → Int32} (h : xn_N A wd cd A ns nch ano) : xj_N (nd_V A wd cd) (nd_y wd) (nd_c wd cd) ns nch := by
  intro x hx h3
  rcases hx with ⟨_, q1, q2, q3⟩ | q
  · obtain ⟨p1, p2, p3, p4, p5⟩ := hfd.2.1 _ q1
    obtain ⟨r1, r2⟩ := ((h (x / 4) q1 q1).1 q2).2 (x % 4) (by omega)
    have e : 4 * (x / 4) + x % 4 = x := by omega
    rw [e] at r1 r2
    have hs : 0 < nd_y wd x ∧ nd_y wd x < 4 := by
      unfold nd_y
      rw [List.getD_eq_getElem?_getD, List.getElem?_eq_getElem q3]
      exact p5 _ (List.getElem_mem q3)
    exact ⟨r1, r2, hs.2, hs.1⟩
  · omega
/-! the sides -/
theorem xn_side {side : Int32} {t : Nat → Nat} (hA8 : A ≤ 8) (hfa : f_atoms = nI A) (ht : ∀ a, a < A → t a ≤ 3 ∧ ((side = 0 ∧ a_leftTimes a = nI (t a)) ∨ (side ≠ 0 ∧ a_rightTimes a = nI (t a)))) {post : Int32 → Prop} (h1 : (∀ a, a < A → t a = 0) → post 1) (h0 : (∃ a, a < A ∧ 0 < t a) → post 0) : ∀ n a, a ≤ A → A < n + a → (∀ b, b < a → t b = 0) → wX_sideIsEmpty_2 post side f_bags f_elems f_maxBasis f_maxWord f_stage f_currentMask f_pendingWord f_pendingLength f_atoms f_boxSize f_liveSet f_elementSet f_frontierEnd f_basisSize f_knownCount f_trailSize a_atomCode a_atomWord a_leftTimes a_rightTimes a_coefficient a_fieldCap a_fieldShift a_seen a_frontierCode a_frontierDefect a_basisCode a_cover a_choice a_covered a_trailMark a_nodeSymbol a_nodeChild a_atomNode a_parent a_weight a_shape a_least a_trailNode a_trailShape a_trailLeast a_thingBase a_thingWord n (nI a) := by
  intro n
  induction n with
  | zero => intro a h1 h2; omega
  | succ n ih =>
    intro a ha hn hz
    unfold wX_sideIsEmpty_2
    refine pk_le A a (fun g => h1 (fun b hb => hz b (by omega))) (fun g => ?_) hfa rfl
    have ia : vp_in (nI a) 8 := vp_in_nI (by omega) (by omega)
    have ca : (nI a).toNatClampNeg = a := nI_clamp (by omega)
    obtain ⟨t1, t2⟩ := ht a g
    have fin : (nI (t a) ≤ 0 → ∀ y : Int32, y = nI a + 1 → wX_sideIsEmpty_2 post side f_bags f_elems f_maxBasis f_maxWord f_stage f_currentMask f_pendingWord f_pendingLength f_atoms f_boxSize f_liveSet f_elementSet f_frontierEnd f_basisSize f_knownCount f_trailSize a_atomCode a_atomWord a_leftTimes a_rightTimes a_coefficient a_fieldCap a_fieldShift a_seen a_frontierCode a_frontierDefect a_basisCode a_cover a_choice a_covered a_trailMark a_nodeSymbol a_nodeChild a_atomNode a_parent a_weight a_shape a_least a_trailNode a_trailShape a_trailLeast a_thingBase a_thingWord n y) ∧ (¬ nI (t a) ≤ 0 → post 0) := by
      refine pk_le (t a) 0 (fun g2 => nm_r (nI_1 a) (ih (a + 1) (by omega) (by omega) (fun b hb => ?_))) (fun g2 => h0 ⟨a, g, g2⟩)
      by_cases e : b = a
      · rw [e]; omega
      · exact hz b (by omega)
    unfold wpX_timesOn
    dsimp only
    rw [ca]
    rcases t2 with ⟨s, e⟩ | ⟨s, e⟩
    · refine br_t s ⟨ia, ?_⟩
      rw [e]; exact fin
    · refine br_f s ⟨ia, ?_⟩
      rw [e]; exact fin
end XN
end
section
/-! the component's solve -/
def so_X (A : Nat) (cd : Nat → Nat) (wd : Nat → List Nat) (c : Nat → Int) (N : Nat) (B : Nat → Nat → Nat) (fa fb fl fe : Int32) (co cap sh bc cov ns nch ano : Nat → Int32) : Prop :=
  ∃ (cv : Nat → Nat) (LV EL : Nat) (bs : Nat → Nat), xs_E A N B cd (fun a => (wd a, cd a)) c (nd_V A wd cd) (nd_t wd cd) (nd_y wd) (nd_c wd cd) (nd_a wd cd) cv LV EL ∧ xs_F A N cd (nd_V A wd cd) (nd_y wd) (nd_c wd cd) (nd_a wd cd) cv LV EL fa fb fl fe cov ns nch ano ∧
    rx_f (bx_w cd c) A 0 ≤ 13 ∧ xb_B A cd c co cap sh ∧ (∀ k, k < N → bc k = nI (bs k) ∧ bs k < 2 ^ 31 ∧ ∀ a, a < A → rx_e (bx_w cd c) A (bs k) a = B k a) ∧ ∀ a, a < A → 20 ≤ cd a → ano a = -1
theorem xn_inj {A : Nat} {cd : Nat → Nat} {wd : Nat → List Nat} (h : fd_ok A cd wd) : ∀ a b, a < A → b < A → 20 ≤ cd a → cd a = cd b → a = b := by
  intro a b ha hb hc e
  refine h.2.2 a b ha hb e ?_
  rw [(h.2.1 a ha).2.2.1 hc, (h.2.1 b hb).2.2.1 (by omega)]
section XW
variable {f_bags f_elems f_maxBasis f_maxWord f_stage f_currentMask f_pendingWord f_pendingLength f_atoms f_boxSize f_liveSet f_elementSet f_frontierEnd f_basisSize f_knownCount f_trailSize : Int32} {a_atomCode a_atomWord a_leftTimes a_rightTimes a_coefficient a_fieldCap a_fieldShift a_seen a_frontierCode a_frontierDefect a_basisCode a_cover a_choice a_covered a_trailMark a_nodeSymbol a_nodeChild a_atomNode a_parent a_weight a_shape a_least a_trailNode a_trailShape a_trailLeast a_thingBase : Nat → Int32} {a_thingWord : Nat → Int64}
variable {A : Nat} {cd lt rt : Nat → Nat} {wd : Nat → List Nat} {c : Nat → Int} {M : Nat}
theorem xv_solve (hfd : fd_ok A cd wd) (hst : f_stage = 0) (hpl : f_pendingLength = 0) (hfa : f_atoms = nI A) (hcd : ∀ a, a < A → a_atomCode a = nI (cd a)) (hwd : ∀ a, a < A → a_atomWord a = nI (wd_p (wd a))) (ht : ∀ a, a < A → a_leftTimes a = nI (lt a) ∧ a_rightTimes a = nI (rt a) ∧ lt a ≤ 3 ∧ rt a ≤ 3 ∧ c a = (lt a : Int) - (rt a : Int)) (hM : M ≤ 12) (hfM : f_maxBasis = nI M) {post : Int32 → SX → Prop}
    (h4 : ((∀ a, a < A → lt a = 0) ∨ (∀ a, a < A → rt a = 0)) → post (-4) (f_bags, f_elems, f_maxBasis, f_maxWord, f_stage, f_currentMask, f_pendingWord, f_pendingLength, f_atoms, f_boxSize, f_liveSet, f_elementSet, f_frontierEnd, f_basisSize, f_knownCount, f_trailSize, a_atomCode, a_atomWord, a_leftTimes, a_rightTimes, a_coefficient, a_fieldCap, a_fieldShift, a_seen, a_frontierCode, a_frontierDefect, a_basisCode, a_cover, a_choice, a_covered, a_trailMark, a_nodeSymbol, a_nodeChild, a_atomNode, a_parent, a_weight, a_shape, a_least, a_trailNode, a_trailShape, a_trailLeast, a_thingBase, a_thingWord))
    (h5 : (∃ a, a < A ∧ 0 < lt a) → (∃ a, a < A ∧ 0 < rt a) → di_more (bx_w cd c) A (bx_cap cd c) c M → ∀ bx lv el fe co cap sh se fc fd bc, post (-5) (f_bags, f_elems, f_maxBasis, f_maxWord, f_stage, f_currentMask, f_pendingWord, f_pendingLength, f_atoms, bx, lv, el, fe, 0, f_knownCount, f_trailSize, a_atomCode, a_atomWord, a_leftTimes, a_rightTimes, co, cap, sh, se, fc, fd, bc, a_cover, a_choice, a_covered, a_trailMark, a_nodeSymbol, a_nodeChild, a_atomNode, a_parent, a_weight, a_shape, a_least, a_trailNode, a_trailShape, a_trailLeast, a_thingBase, a_thingWord))
    (h1 : (∃ a, a < A ∧ 0 < lt a) → (∃ a, a < A ∧ 0 < rt a) → ∀ N bs bx lv el fe co cap sh se fc fd bc cov ns nch ano, N ≤ M → di_inc (bx_w cd c) A (bx_cap cd c) c bs N → di_all (bx_w cd c) A (bx_cap cd c) c bs N → so_X A cd wd c N (fun k a => rx_e (bx_w cd c) A (bs k) a) f_atoms (nI N) lv el co cap sh bc cov ns nch ano →
      post (nI N) (f_bags, f_elems, f_maxBasis, f_maxWord, 1, f_currentMask, f_pendingWord, f_pendingLength, f_atoms, bx, lv, el, fe, nI N, -1, f_trailSize, a_atomCode, a_atomWord, a_leftTimes, a_rightTimes, co, cap, sh, se, fc, fd, bc, cov, a_choice, a_covered, a_trailMark, ns, nch, ano, a_parent, a_weight, a_shape, a_least, a_trailNode, a_trailShape, a_trailLeast, a_thingBase, a_thingWord)) :
    wpX_solve post (f_bags, f_elems, f_maxBasis, f_maxWord, f_stage, f_currentMask, f_pendingWord, f_pendingLength, f_atoms, f_boxSize, f_liveSet, f_elementSet, f_frontierEnd, f_basisSize, f_knownCount, f_trailSize, a_atomCode, a_atomWord, a_leftTimes, a_rightTimes, a_coefficient, a_fieldCap, a_fieldShift, a_seen, a_frontierCode, a_frontierDefect, a_basisCode, a_cover, a_choice, a_covered, a_trailMark, a_nodeSymbol, a_nodeChild, a_atomNode, a_parent, a_weight, a_shape, a_least, a_trailNode, a_trailShape, a_trailLeast, a_thingBase, a_thingWord) := by
  have hA8 := hfd.1
  have h13 := bx_13 c hA8 (fun a ha => (hfd.2.1 a ha).1) (xn_inj hfd)
  have h8 : 2 ^ rx_f (bx_w cd c) A 0 ≤ 2 ^ 13 := Nat.pow_le_pow_right (by omega) h13
  have hc3 : ∀ a, a < A → -3 ≤ c a ∧ c a ≤ 3 := fun a ha => by
    obtain ⟨_, _, t3, t4, t5⟩ := ht a ha
    omega
  refine br_t hst (br_t hpl ⟨A + 1, xn_side (t := lt) hA8 hfa (fun a ha => ⟨(ht a ha).2.2.1, Or.inl ⟨rfl, (ht a ha).1⟩⟩) (fun z => br_f (by decide) (h4 (Or.inl z))) (fun hl => br_t rfl ⟨A + 1, xn_side (t := rt) hA8 hfa (fun a ha => ⟨(ht a ha).2.2.2.1, Or.inr ⟨by decide, (ht a ha).2.1⟩⟩) (fun z => br_f (by decide) (h4 (Or.inr z))) (fun hr => br_t rfl ?_) (A + 1) 0 (Nat.zero_le _) (by omega) (fun b hb => absurd hb (Nat.not_lt_zero b))⟩) (A + 1) 0 (Nat.zero_le _) (by omega) (fun b hb => absurd hb (Nat.not_lt_zero b))⟩)
  refine xb_box hA8 hfa (fun a ha => ⟨hcd a ha, (hfd.2.1 a ha).1⟩) ht h13 ?_
  intro lv el co cap sh hB ⟨LV, e1, hLV⟩ ⟨EL, e2, hEL⟩
  refine ⟨2 ^ rx_f (bx_w cd c) A 0 + 1, xv_find_7 hA8 hfa h13 hc3 hB hM hfM rfl rfl (fun fe fb se fc fd bc hok => br_f (by decide) ?_) (fun fe fb se fc fd bc hmore => br_t rfl (h5 hl hr hmore _ _ _ _ _ _ _ _ _ _ _)) (2 ^ rx_f (bx_w cd c) A 0 + 1) 0 _ (Nat.zero_le _) (by omega) (fun x hx => absurd hx (Nat.not_lt_zero x))⟩
  obtain ⟨N, bs, hNM, hfb, hbc, hinc, hall⟩ := hok
  subst hfb
  have hbc' : ∀ k, k < N → bc k = nI (bs k) ∧ bs k < 2 ^ 31 := fun k hk => ⟨hbc k hk, by have := (hinc.1 k hk).1; omega⟩
  refine ⟨N + 1, xv_cov hA8 hfa h13 hB (show N ≤ 12 by omega) rfl hbc' (fun cov hcov => ⟨A + 1, xn_build hfd hfa hcd hwd (fun ns nch ano hnd => ?_) (A + 1) 0 _ _ _ (Nat.zero_le _) (by omega) (fun b hb => absurd hb (Nat.not_lt_zero b))⟩) (N + 1) 0 _ (Nat.zero_le _) (by omega) (fun j hj => absurd hj (Nat.not_lt_zero j))⟩
  refine h1 hl hr N bs _ _ _ _ _ _ _ _ _ _ _ _ _ _ _ hNM hinc hall ⟨fun k => bx_cov (rx_e (bx_w cd c) A (bs k)) A, LV, EL, bs, ⟨hA8, by omega, fun k hk a ha => ?_, fun k hk a => bx_cov_bit A a, hLV, hEL, nd_S hfd, fun a ha hca => nd_atom hfd ha hca⟩, ⟨hfa, rfl, e1, e2, hcov, xn_toN hfd hnd, fun a ha hca => ((hnd a ha ha).1 hca).1⟩, h13, hB, fun k hk => ⟨(hbc' k hk).1, (hbc' k hk).2, fun _ _ => rfl⟩, fun a ha hca => (hnd a ha ha).2 hca⟩
  have hle := (hinc.1 k hk).2.1.2.1 a ha
  refine ⟨xb_e3 _ _, fun hp hz => ?_, fun hca => ?_⟩
  · have hz' : bx_cap cd c a = 0 := if_pos hz
    have hp' : 0 < rx_e (bx_w cd c) A (bs k) a := hp
    omega
  · have : bx_cap cd c a ≤ 1 := by
      unfold bx_cap
      split
      · omega
      · rw [if_neg (by omega)]; omega
    show rx_e (bx_w cd c) A (bs k) a ≤ 1
    omega
end XW
end
section
/-! the reference's chain slots -/
def yy_S (cl cb cw : Nat → Int32) (i : Nat) (t : ch_C) : Prop := cl i = nI t.1.length ∧ cb i = nI t.2 ∧ t.1.length ≤ 64 ∧ ∀ p, p < t.1.length → cw (i * 64 + p) = nI (t.1.getD p 0)
def yy_keep (i : Nat) (cl cb cw cl' cb' cw' : Nat → Int32) : Prop := (∀ j, j ≠ i → cl' j = cl j ∧ cb' j = cb j) ∧ ∀ x, (x < i * 64 ∨ i * 64 + 64 ≤ x) → cw' x = cw x
theorem yy_keep_S {i j : Nat} {cl cb cw cl' cb' cw' : Nat → Int32} (h : yy_keep i cl cb cw cl' cb' cw') (hj : j ≠ i) {t : ch_C} (hs : yy_S cl cb cw j t) : yy_S cl' cb' cw' j t := by
  obtain ⟨h1, h2⟩ := h
  obtain ⟨s1, s2, s3, s4⟩ := hs
  obtain ⟨k1, k2⟩ := h1 j hj
  refine ⟨k1.trans s1, k2.trans s2, s3, fun p hp => ?_⟩
  rw [h2 (j * 64 + p) (by omega)]
  exact s4 p hp
theorem yy_getD_app {u w : List Nat} {p : Nat} : (u ++ w).getD p 0 = if p < u.length then u.getD p 0 else w.getD (p - u.length) 0 := by
  rw [List.getD_eq_getElem?_getD, List.getD_eq_getElem?_getD, List.getD_eq_getElem?_getD]
  by_cases h : p < u.length
  · rw [if_pos h, List.getElem?_append_left h]
  · rw [if_neg h, List.getElem?_append_right (by omega)]
theorem yy_getD_drop {w : List Nat} {s p : Nat} : (w.drop s).getD p 0 = w.getD (s + p) 0 := by
  rw [List.getD_eq_getElem?_getD, List.getD_eq_getElem?_getD, List.getElem?_drop]
section YY
variable {f_bags f_elems f_maxBasis f_maxWord f_state f_cur f_n f_atoms f_pendLen : Int32} {b_pend b_base b_atomLen b_atomWord b_mult b_basis b_cLen b_cBase b_cWord : Nat → Int32}
theorem yy_append_l {fm to start : Nat} (hf : fm < 8) (ht : to < 8) (hne : fm ≠ to) {w u : List Nat} {b : Nat} {cl cw : Nat → Int32} (hfr : yy_S cl b_cBase cw fm (w, b)) (hs : start ≤ w.length) (hlen : u.length + (w.length - start) ≤ 64) {post : SY → Prop}
    (h : ∀ cl' cb' cw', yy_keep to cl b_cBase cw cl' cb' cw' → yy_S cl' cb' cw' to (u ++ w.drop start, b) → post (f_bags, f_elems, f_maxBasis, f_maxWord, f_state, f_cur, f_n, f_atoms, f_pendLen, b_pend, b_base, b_atomLen, b_atomWord, b_mult, b_basis, cl', cb', cw')) :
    ∀ n d cl' cw', start + d ≤ w.length → w.length < n + (start + d) → (∀ j, j ≠ to → cl' j = cl j) → (∀ x, (x < to * 64 ∨ to * 64 + 64 ≤ x) → cw' x = cw x) → cl' to = nI (u.length + d) → (∀ p, p < u.length + d → cw' (to * 64 + p) = nI ((u ++ w.drop start).getD p 0)) →
      wY_append_3 post (nI fm) (nI to) f_bags f_elems f_maxBasis f_maxWord f_state f_cur f_n f_atoms f_pendLen n (nI (start + d)) b_pend b_base b_atomLen b_atomWord b_mult b_basis cl' b_cBase cw' := by
  have ifm : vp_in (nI fm) 8 := vp_in_nI hf (by omega)
  have ito : vp_in (nI to) 8 := vp_in_nI ht (by omega)
  have cfm : (nI fm).toNatClampNeg = fm := nI_clamp (by omega)
  have cto : (nI to).toNatClampNeg = to := nI_clamp (by omega)
  obtain ⟨f1, f2, f3, f4⟩ := hfr
  have f3' : w.length ≤ 64 := f3
  intro n
  induction n with
  | zero => intro d cl' cw' h1 h2; omega
  | succ n ih =>
    intro d cl' cw' hd hn hcl hcw hto hw
    unfold wY_append_3
    rw [cfm, cto, hcl fm hne, f1, hto]
    refine ⟨ifm, ?_⟩
    refine pk_le w.length (start + d) (fun g => ?_) (fun g => ?_)
    · have ed : start + d = w.length := by omega
      unfold wY_append_76
      rw [cfm, cto, f2]
      refine ⟨ifm, ito, nm_e (h _ _ _ ⟨fun j hj => ⟨hcl j hj, pk_un hj⟩, hcw⟩ ⟨?_, pk_us, ?_, fun p hp => ?_⟩)⟩
      · rw [hto]
        show _ = nI (u ++ w.drop start).length
        rw [List.length_append, List.length_drop]
        congr 1
        omega
      · show (u ++ w.drop start).length ≤ 64
        rw [List.length_append, List.length_drop]; omega
      · have hp' : p < (u ++ w.drop start).length := hp
        rw [List.length_append, List.length_drop] at hp'
        exact hw p (by omega)
    · refine pk_le 64 (start + d) (fun g2 => absurd g2 (by omega)) (fun _ => ⟨ito, ?_⟩)
      refine pk_le 64 (u.length + d) (fun g2 => absurd g2 (by omega)) (fun g2 => ⟨ito, ?_⟩)
      have e1 : nI fm * 64 + nI (start + d) = nI (fm * 64 + (start + d)) := by
        rw [show nI fm * 64 = nI (fm * 64) from pk_mul fm 64, nI_add]
      have e2 : nI to * 64 + nI (u.length + d) = nI (to * 64 + (u.length + d)) := by
        rw [show nI to * 64 = nI (to * 64) from pk_mul to 64, nI_add]
      rw [e1, e2, nI_clamp (show fm * 64 + (start + d) < 2 ^ 31 by omega), nI_clamp (show to * 64 + (u.length + d) < 2 ^ 31 by omega)]
      refine ⟨vp_in_nI (by omega) (by omega), vp_in_nI (by omega) (by omega), nm_e ⟨ito, ito, nm_e (nm_r (nI_1 (start + d)) ?_)⟩⟩
      refine ih (d + 1) _ _ (by omega) (by omega) (fun j hj => ?_) (fun x hx => ?_) ?_ (fun p hp => ?_)
      · rw [pk_un hj]; exact hcl j hj
      · rw [pk_un (by omega)]; exact hcw x hx
      · rw [pk_us, nI_1]; rfl
      · by_cases e : p = u.length + d
        · subst e
          rw [pk_us, hcw (fm * 64 + (start + d)) (by omega)]
          have := f4 (start + d) g
          rw [this, yy_getD_app, if_neg (by omega), yy_getD_drop]
          congr 2
          omega
        · rw [pk_un (by omega)]; exact hw p (by omega)
theorem yy_append {fm to start : Nat} (hf : fm < 8) (ht : to < 8) (hne : fm ≠ to) {w u : List Nat} {b : Nat} (hfr : yy_S b_cLen b_cBase b_cWord fm (w, b)) (hl : b_cLen to = nI u.length) (hu : ∀ p, p < u.length → b_cWord (to * 64 + p) = nI (u.getD p 0)) (hs : start ≤ w.length) (hlen : u.length + (w.length - start) ≤ 64) {post : SY → Prop}
    (h : ∀ cl' cb' cw', yy_keep to b_cLen b_cBase b_cWord cl' cb' cw' → yy_S cl' cb' cw' to (u ++ w.drop start, b) → post (f_bags, f_elems, f_maxBasis, f_maxWord, f_state, f_cur, f_n, f_atoms, f_pendLen, b_pend, b_base, b_atomLen, b_atomWord, b_mult, b_basis, cl', cb', cw')) : wpY_append post (f_bags, f_elems, f_maxBasis, f_maxWord, f_state, f_cur, f_n, f_atoms, f_pendLen, b_pend, b_base, b_atomLen, b_atomWord, b_mult, b_basis, b_cLen, b_cBase, b_cWord) (nI fm) (nI start) (nI to) :=
  ⟨w.length + 1, yy_append_l hf ht hne hfr hs hlen h (w.length + 1) 0 b_cLen b_cWord hs (by omega) (fun _ _ => rfl) (fun _ _ => rfl) hl (fun p hp => by rw [yy_getD_app, if_pos (show p < u.length by omega)]; exact hu p hp)⟩
/-- what the reference holds of the atoms -/
def yf_A (A : Nat) (cd : Nat → Nat) (wd : Nat → List Nat) (fa : Int32) (ba al aw : Nat → Int32) : Prop :=
  fa = nI A ∧ ∀ a, a < A → ba a = nI (cd a) ∧ al a = nI (wd a).length ∧ ∀ p, p < (wd a).length → aw (a * 3 + p) = nI ((wd a).getD p 0)
def yy_T (T : Nat → ch_C) (cl cb cw : Nat → Int32) : Prop := ∀ v, v < 4 → yy_S cl cb cw v (T v)
variable {A : Nat} {cd : Nat → Nat} {wd : Nat → List Nat} {T : Nat → ch_C}
theorem yy_image_l (hfd : fd_ok A cd wd) (hF : yf_A A cd wd f_atoms b_base b_atomLen b_atomWord) {a s : Nat} (ha : a < A) (hs4 : 4 ≤ s) (hs8 : s < 8) {cl cw : Nat → Int32} (hT : yy_T T cl b_cBase cw) (hcl : cl s = nI (wd a).length) (hlen : (ch_v T (wd a, cd a)).1.length ≤ 64) {post : SY → Prop}
    (h : ∀ cl' cb' cw', yy_keep s cl b_cBase cw cl' cb' cw' → yy_S cl' cb' cw' s (ch_v T (wd a, cd a)) → post (f_bags, f_elems, f_maxBasis, f_maxWord, f_state, f_cur, f_n, f_atoms, f_pendLen, b_pend, b_base, b_atomLen, b_atomWord, b_mult, b_basis, cl', cb', cw')) :
    ∀ n p cw', p ≤ (wd a).length → (wd a).length < n + p → (∀ x, (x < s * 64 ∨ s * 64 + 64 ≤ x) → cw' x = cw x) → (∀ q, q < p → cw' (s * 64 + q) = nI ((wd a).getD q 0)) →
      wY_image_14 post (nI a) (nI s) f_bags f_elems f_maxBasis f_maxWord f_state f_cur f_n f_atoms f_pendLen n (nI p) b_pend b_base b_atomLen b_atomWord b_mult b_basis cl b_cBase cw' := by
  obtain ⟨_, hF2⟩ := hF
  obtain ⟨g1, g2, g3⟩ := hF2 a ha
  obtain ⟨p1, p2, p3, p4, p5⟩ := hfd.2.1 a ha
  have hA8 := hfd.1
  have ia : vp_in (nI a) 8 := vp_in_nI (by omega) (by omega)
  have is : vp_in (nI s) 8 := vp_in_nI hs8 (by omega)
  have ca : (nI a).toNatClampNeg = a := nI_clamp (by omega)
  have cs : (nI s).toNatClampNeg = s := nI_clamp (by omega)
  intro n
  induction n with
  | zero => intro p cw' h1 h2; omega
  | succ n ih =>
    intro p cw' hp hn hcw hq
    unfold wY_image_14
    rw [ca, cs, g2, g1]
    refine ⟨ia, ?_⟩
    refine pk_le (wd a).length p (fun g => ⟨ia, is, nm_e ⟨ia, ?_⟩⟩) (fun g => ?_)
    · have ep : p = (wd a).length := by omega
      have keep : yy_keep s cl b_cBase cw cl (upd b_cBase s (nI (cd a))) cw' := ⟨fun j hj => ⟨rfl, pk_un hj⟩, hcw⟩
      refine pk_le 4 (cd a) (fun g4 => ?_) (fun g4 => ⟨ia, ?_⟩)
      · have e : ch_v T (wd a, cd a) = (wd a, cd a) := ch_v_ge (by omega)
        refine h _ _ _ keep ?_
        rw [e]
        exact ⟨hcl, pk_us, by show (wd a).length ≤ 64; omega, fun q hq' => hq q (by rw [ep]; exact hq')⟩
      · have e : ch_v T (wd a, cd a) = (wd a ++ (T (cd a)).1, (T (cd a)).2) := ch_v_lt g4
        rw [e] at hlen h
        have hlen' : (wd a ++ (T (cd a)).1).length ≤ 64 := hlen
        rw [List.length_append] at hlen'
        have hTs : yy_S cl (upd b_cBase s (nI (cd a))) cw' (cd a) (T (cd a)) := yy_keep_S keep (by omega) (hT (cd a) g4)
        refine yy_append (fm := cd a) (to := s) (start := 0) (w := (T (cd a)).1) (u := wd a) (b := (T (cd a)).2) (by omega) hs8 (by omega) hTs hcl (fun q hq' => hq q (by omega)) (Nat.zero_le _) (by omega) (fun cl2 cb2 cw2 k2 s2 => ?_)
        refine h cl2 cb2 cw2 ⟨fun j hj => ?_, fun x hx => ?_⟩ s2
        · obtain ⟨q1, q2⟩ := k2.1 j hj
          exact ⟨q1, q2.trans (pk_un hj)⟩
        · exact (k2.2 x hx).trans (hcw x hx)
    · have e1 : nI a * 3 + nI p = nI (a * 3 + p) := by
        rw [show nI a * 3 = nI (a * 3) from pk_mul a 3, nI_add]
      have e2 : nI s * 64 + nI p = nI (s * 64 + p) := by
        rw [show nI s * 64 = nI (s * 64) from pk_mul s 64, nI_add]
      rw [e1, e2, nI_clamp (show a * 3 + p < 2 ^ 31 by omega), nI_clamp (show s * 64 + p < 2 ^ 31 by omega), g3 p g]
      refine ⟨vp_in_nI (by omega) (by omega), vp_in_nI (by omega) (by omega), nm_e (nm_r (nI_1 p) ?_)⟩
      refine ih (p + 1) _ (by omega) (by omega) (fun x hx => ?_) (fun q hq' => ?_)
      · rw [pk_un (by omega)]; exact hcw x hx
      · by_cases e : q = p
        · rw [e, pk_us]
        · rw [pk_un (by omega)]; exact hq q (by omega)
theorem yy_image (hfd : fd_ok A cd wd) (hF : yf_A A cd wd f_atoms b_base b_atomLen b_atomWord) {a s : Nat} (ha : a < A) (hs4 : 4 ≤ s) (hs8 : s < 8) (hT : yy_T T b_cLen b_cBase b_cWord) (hlen : (ch_v T (wd a, cd a)).1.length ≤ 64) {post : SY → Prop}
    (h : ∀ cl' cb' cw', yy_keep s b_cLen b_cBase b_cWord cl' cb' cw' → yy_S cl' cb' cw' s (ch_v T (wd a, cd a)) → post (f_bags, f_elems, f_maxBasis, f_maxWord, f_state, f_cur, f_n, f_atoms, f_pendLen, b_pend, b_base, b_atomLen, b_atomWord, b_mult, b_basis, cl', cb', cw')) : wpY_image post (f_bags, f_elems, f_maxBasis, f_maxWord, f_state, f_cur, f_n, f_atoms, f_pendLen, b_pend, b_base, b_atomLen, b_atomWord, b_mult, b_basis, b_cLen, b_cBase, b_cWord) (nI a) (nI s) := by
  have hA8 := hfd.1
  have ia : vp_in (nI a) 8 := vp_in_nI (by omega) (by omega)
  have is : vp_in (nI s) 8 := vp_in_nI hs8 (by omega)
  refine ⟨ia, is, nm_r (e' := upd b_cLen s (nI (wd a).length)) (by rw [nI_clamp (by omega), nI_clamp (by omega), (hF.2 a ha).2.1]) ⟨(wd a).length + 1, ?_⟩⟩
  have keep : yy_keep s b_cLen b_cBase b_cWord (upd b_cLen s (nI (wd a).length)) b_cBase b_cWord := ⟨fun j hj => ⟨pk_un hj, rfl⟩, fun _ _ => rfl⟩
  refine yy_image_l hfd hF ha hs4 hs8 (fun v hv => yy_keep_S keep (by omega) (hT v hv)) pk_us hlen (fun cl' cb' cw' k s' => h cl' cb' cw' ⟨fun j hj => ?_, k.2⟩ s') _ 0 b_cWord (Nat.zero_le _) (by omega) (fun _ _ => rfl) (fun q hq => absurd hq (Nat.not_lt_zero q))
  obtain ⟨q1, q2⟩ := k.1 j hj
  exact ⟨q1.trans (pk_un hj), q2⟩
end YY
end
section
/-! the reference's unification of two atoms -/
def yg_fr (T : Nat → ch_C) : Nat := ac_cn (fun v => decide (T v = ([], v))) 4
/-- a good substitution: normal, its words not too long -/
def yg_G (T : Nat → ch_C) : Prop := ch_nf T ∧ (∀ v, v < 4 → wd_ok (T v).1) ∧ ∀ v, v < 4 → (T v).1.length + 3 ≤ 3 * 2 ^ (4 - yg_fr T)
theorem yg_id : yg_G (fun v => ([], v)) := by
  refine ⟨ch_nf_id, fun v _ => wd_ok_nil, fun v _ => ?_⟩
  have : yg_fr (fun v => ([], v)) = 4 := ac_cn_full 4 (fun i _ => decide_eq_true rfl)
  rw [this]
  exact Nat.le_refl 3
theorem yg_bind {T : Nat → ch_C} (G : yg_G T) {x : Nat} {w : List Nat} {b : Nat} (hx : x < 4) (fx : T x = ([], x)) (hb8 : b < 8) (fb : b < 4 → T b = ([], b)) (hne : x ≠ b) (ho : w = [] → b < 4 → b < x) (hw : wd_ok w) (hl : w.length ≤ 3 * 2 ^ (4 - yg_fr T)) : yg_G (ch_b T x w b) := by
  obtain ⟨g1, g2, g3⟩ := G
  have hfr : yg_fr (ch_b T x w b) + 1 ≤ yg_fr T := by
    unfold yg_fr
    have e := ac_cn_drop (p := fun v => decide (T v = ([], v))) (q := fun v => if v = x then false else decide (T v = ([], v))) x (decide_eq_true fx) (if_pos rfl) (fun i hi => (if_neg hi).symm) 4 hx
    rw [e]
    apply Nat.succ_le_succ
    apply ac_cn_le
    intro v hv hp
    have hp' : ch_b T x w b v = ([], v) := of_decide_eq_true hp
    show (if v = x then false else decide (T v = ([], v))) = true
    by_cases e2 : (T v).2 = x
    · have e3 : ch_b T x w b v = ((T v).1 ++ w, b) := if_pos e2
      rw [e3] at hp'
      have h1 : b = v := congrArg Prod.snd hp'
      subst h1
      have h2 := fb hv
      rw [h2] at e2
      exact absurd e2.symm hne
    · have e3 : ch_b T x w b v = T v := if_neg e2
      rw [e3] at hp'
      rw [if_neg (fun z => e2 (by rw [hp']; exact z))]
      exact decide_eq_true hp'
  have h4 : yg_fr T ≤ 4 := ac_cn_bound 4
  have hpow : 2 * 2 ^ (4 - yg_fr T) ≤ 2 ^ (4 - yg_fr (ch_b T x w b)) := by
    rw [Nat.mul_comm, ← Nat.pow_succ]
    exact Nat.pow_le_pow_right (by omega) (by omega)
  refine ⟨(ch_bind (p := []) g1 hx fx hb8 fb hne ho).1, fun v hv => ?_, fun v hv => ?_⟩
  · by_cases e2 : (T v).2 = x
    · have e3 : ch_b T x w b v = ((T v).1 ++ w, b) := if_pos e2
      rw [e3]
      intro s hs
      rcases List.mem_append.mp hs with q | q
      · exact g2 v hv s q
      · exact hw s q
    · have e3 : ch_b T x w b v = T v := if_neg e2
      rw [e3]; exact g2 v hv
  · have := g3 v hv
    by_cases e2 : (T v).2 = x
    · have e3 : ch_b T x w b v = ((T v).1 ++ w, b) := if_pos e2
      rw [e3]
      show ((T v).1 ++ w).length + 3 ≤ _
      rw [List.length_append]
      omega
    · have e3 : ch_b T x w b v = T v := if_neg e2
      rw [e3]
      have := Nat.two_pow_pos (4 - yg_fr T)
      omega
theorem yg_img {T : Nat → ch_C} (G : yg_G T) {w : List Nat} {b : Nat} (hw : wd_ok w) (hl : w.length ≤ 3) (hb : b < 8) : (ch_v T (w, b)).1.length ≤ 3 * 2 ^ (4 - yg_fr T) ∧ wd_ok (ch_v T (w, b)).1 ∧ (ch_v T (w, b)).2 < 8 ∧ ((ch_v T (w, b)).2 < 4 → T (ch_v T (w, b)).2 = ([], (ch_v T (w, b)).2)) := by
  obtain ⟨g1, g2, g3⟩ := G
  have hp := Nat.two_pow_pos (4 - yg_fr T)
  by_cases h : b < 4
  · rw [ch_v_lt h]
    have := g3 b h
    obtain ⟨n1, n2, _⟩ := g1 b h
    refine ⟨?_, fun s hs => ?_, n1, n2⟩
    · show (w ++ (T b).1).length ≤ _
      rw [List.length_append]; omega
    · rcases List.mem_append.mp hs with q | q
      · exact hw s q
      · exact g2 b h s q
  · rw [ch_v_ge h]
    exact ⟨by show w.length ≤ _; omega, hw, hb, fun z => absurd z h⟩
theorem yg_48 (T : Nat → ch_C) : 3 * 2 ^ (4 - yg_fr T) ≤ 48 := by
  have : 2 ^ (4 - yg_fr T) ≤ 2 ^ 4 := Nat.pow_le_pow_right (by omega) (by omega)
  omega
def yy_hi (cl cb cw cl' cb' cw' : Nat → Int32) : Prop := (∀ j, 6 ≤ j → cl' j = cl j ∧ cb' j = cb j) ∧ ∀ x, 384 ≤ x → cw' x = cw x
theorem yy_hi_rf (cl cb cw : Nat → Int32) : yy_hi cl cb cw cl cb cw := ⟨fun _ _ => ⟨rfl, rfl⟩, fun _ _ => rfl⟩
theorem yy_hi_tr {cl cb cw cl' cb' cw' cl2 cb2 cw2 : Nat → Int32} (h : yy_hi cl cb cw cl' cb' cw') (h2 : yy_hi cl' cb' cw' cl2 cb2 cw2) : yy_hi cl cb cw cl2 cb2 cw2 :=
  ⟨fun j hj => ⟨(h2.1 j hj).1.trans (h.1 j hj).1, (h2.1 j hj).2.trans (h.1 j hj).2⟩, fun x hx => (h2.2 x hx).trans (h.2 x hx)⟩
theorem yy_hi_keep {i : Nat} {cl cb cw cl' cb' cw' : Nat → Int32} (h : yy_keep i cl cb cw cl' cb' cw') (hi : i < 6) : yy_hi cl cb cw cl' cb' cw' :=
  ⟨fun j hj => h.1 j (by omega), fun x hx => h.2 x (by omega)⟩
section YU
variable {f_bags f_elems f_maxBasis f_maxWord f_state f_cur f_n f_atoms f_pendLen : Int32} {b_pend b_base b_atomLen b_atomWord b_mult b_basis b_cLen b_cBase b_cWord : Nat → Int32}
variable {T : Nat → ch_C}
theorem yu_216 (G : yg_G T) {bg x : Nat} (hbg : bg = 4 ∨ bg = 5) (hx : x < 4) {wg : List Nat} {xg st : Nat} (hst : st ≤ wg.length) (hwl : wg.length ≤ 48) {post : Int32 → SY → Prop} {cl0 cb0 cw0 : Nat → Int32}
    (h : ∀ cl cb cw, yy_T (ch_b T x (wg.drop st) xg) cl cb cw → yy_hi cl0 cb0 cw0 cl cb cw → post 1 (f_bags, f_elems, f_maxBasis, f_maxWord, f_state, f_cur, f_n, f_atoms, f_pendLen, b_pend, b_base, b_atomLen, b_atomWord, b_mult, b_basis, cl, cb, cw)) (hb8 : xg < 8) (hne : x ≠ xg) (hlen : ∀ v, v < 4 → (T v).1.length + (wg.length - st) ≤ 64) :
    ∀ n v cl cb cw, v ≤ 4 → 4 < n + v → (∀ u, u < v → yy_S cl cb cw u (ch_b T x (wg.drop st) xg u)) → (∀ u, v ≤ u → u < 4 → yy_S cl cb cw u (T u)) → yy_S cl cb cw bg (wg, xg) → yy_hi cl0 cb0 cw0 cl cb cw →
      wY_unify_216 post (nI bg) (nI x) (nI st) n (nI v) f_bags f_elems f_maxBasis f_maxWord f_state f_cur f_n f_atoms f_pendLen b_pend b_base b_atomLen b_atomWord b_mult b_basis cl cb cw := by
  intro n
  induction n with
  | zero => intro v cl cb cw h1 h2; omega
  | succ n ih =>
    intro v cl cb cw hv hn h1 h2 h3 h4
    unfold wY_unify_216
    refine pk_le 4 v (fun g => h cl cb cw (fun u hu => h1 u (by omega)) h4) (fun g => ⟨vp_in_nI (by omega) (by omega), ?_⟩)
    have s := h2 v (Nat.le_refl _) g
    have hT8 := (G.1 v g).1
    rw [nI_clamp (show v < 2 ^ 31 by omega), s.2.1]
    refine pk_eq (T v).2 x (fun e => ?_) (fun e => nm_r (nI_1 v) (ih (v + 1) cl cb cw (by omega) (by omega) (fun u hu => ?_) (fun u hu => h2 u (by omega)) h3 h4))
    · refine yy_append (w := wg) (u := (T v).1) (b := xg) (by omega) (by omega) (by omega) h3 s.1 s.2.2.2 hst (hlen v g) (fun cl' cb' cw' k s' => nm_r (nI_1 v) (ih (v + 1) cl' cb' cw' (by omega) (by omega) (fun u hu => ?_) (fun u hu1 hu2 => yy_keep_S k (by omega) (h2 u (by omega) hu2)) (yy_keep_S k (by omega) h3) (yy_hi_tr h4 (yy_hi_keep k (by omega)))))
      by_cases eu : u = v
      · subst eu
        have : ch_b T x (wg.drop st) xg u = ((T u).1 ++ wg.drop st, xg) := if_pos e
        rw [this]; exact s'
      · exact yy_keep_S k eu (h1 u (by omega))
    · by_cases eu : u = v
      · subst eu
        have : ch_b T x (wg.drop st) xg u = T u := if_neg e
        rw [this]; exact s
      · exact h1 u (by omega)
/-- small and big are known: bind, or fail -/
theorem yu_175 (G : yg_G T) {sm bg : Nat} (hsb : (sm = 4 ∧ bg = 5) ∨ (sm = 5 ∧ bg = 4)) {ws wg : List Nat} {xs xg : Nat} {cl cb cw cl0 cb0 cw0 : Nat → Int32} (hT : yy_T T cl cb cw) (h4 : yy_S cl cb cw sm (ws, xs)) (h5 : yy_S cl cb cw bg (wg, xg)) (hhi : yy_hi cl0 cb0 cw0 cl cb cw)
    (hle : ws.length ≤ wg.length) (hpre : ∀ i, i < ws.length → ws.getD i 0 = wg.getD i 0) (hxs : xs < 8) (hxg : xg < 8) (fs : xs < 4 → T xs = ([], xs)) (fg : xg < 4 → T xg = ([], xg)) (hwg : wd_ok wg) (hwl : wg.length ≤ 3 * 2 ^ (4 - yg_fr T)) (hq1 : ws.length = wg.length → xs ≠ xg) (hq2 : ws.length = wg.length → 4 ≤ xs → 4 ≤ xg) (hq3 : ws.length = wg.length → xg < 4 → xs < 4 → xg < xs) {post : Int32 → SY → Prop}
    (h1 : ∀ T' cl cb cw, yg_G T' → yy_T T' cl cb cw → (∀ s, ch_sv s T' ↔ ch_sv s T ∧ ch_v s (ws, xs) = ch_v s (wg, xg)) → yy_hi cl0 cb0 cw0 cl cb cw → post 1 (f_bags, f_elems, f_maxBasis, f_maxWord, f_state, f_cur, f_n, f_atoms, f_pendLen, b_pend, b_base, b_atomLen, b_atomWord, b_mult, b_basis, cl, cb, cw))
    (h0 : (∀ s, ¬ ch_v s (ws, xs) = ch_v s (wg, xg)) → post 0 (f_bags, f_elems, f_maxBasis, f_maxWord, f_state, f_cur, f_n, f_atoms, f_pendLen, b_pend, b_base, b_atomLen, b_atomWord, b_mult, b_basis, cl, cb, cw)) : wY_unify_175 post (nI sm) (nI bg) f_bags f_elems f_maxBasis f_maxWord f_state f_cur f_n f_atoms f_pendLen b_pend b_base b_atomLen b_atomWord b_mult b_basis cl cb cw := by
  have ism : vp_in (nI sm) 8 := vp_in_nI (by omega) (by omega)
  have ibg : vp_in (nI bg) 8 := vp_in_nI (by omega) (by omega)
  have h48 := yg_48 T
  unfold wY_unify_175
  rw [nI_clamp (show sm < 2 ^ 31 by omega), nI_clamp (show bg < 2 ^ 31 by omega), h4.2.1, h4.1, h5.2.1]
  refine ⟨ism, nm_e ⟨ism, nm_e ?_⟩⟩
  refine pk_le 4 xs (fun g => h0 (fun s e => ?_)) (fun g => ⟨ibg, ?_⟩)
  · obtain ⟨e1, e2⟩ := ch_fail1 (by omega) e hle (fun z => by have := hq2 z g; omega)
    exact hq1 e1 e2
  · refine pk_eq xs xg (fun e => h0 (fun s q => ?_)) (fun e => ⟨5, ?_⟩)
    · rw [e] at q
      exact hq1 (ch_fail2 q) e
    · have hlt : ∀ v, v < 4 → (T v).1.length + (wg.length - ws.length) ≤ 64 := by
        intro v hv
        have h6 := G.2.2 v hv
        have h7 : 0 < yg_fr T := ac_cn_pos 4 xs (by omega) (decide_eq_true (fs (by omega)))
        have h8 : 2 ^ (4 - yg_fr T) ≤ 2 ^ 3 := Nat.pow_le_pow_right (by omega) (by omega)
        omega
      have ho : wg.drop ws.length = [] → xg < 4 → xg < xs := by
        intro z z4
        rw [List.drop_eq_nil_iff] at z
        exact hq3 (by omega) z4 (by omega)
      have hok : wd_ok (wg.drop ws.length) := wd_drop_ok hwg _
      refine yu_216 G (by omega) (by omega) hle (by omega) (fun cl' cb' cw' hT' hhi' => h1 _ cl' cb' cw' (yg_bind G (by omega) (fs (by omega)) hxg fg e ho hok (by rw [List.length_drop]; omega)) hT' (fun s => ?_) hhi') hxg e hlt 5 0 cl cb cw (by omega) (by omega) (fun u hu => absurd hu (Nat.not_lt_zero u)) (fun u _ hu => hT u hu) h5 hhi
      have := (ch_bind (p := ws) (w := wg.drop ws.length) G.1 (show xs < 4 by omega) (fs (by omega)) hxg fg e ho).2 s
      rw [ch_take hle hpre] at this
      exact this
theorem yu_159 (G : yg_G T) {p q : ch_C} {cl cb cw cl0 cb0 cw0 : Nat → Int32} (hT : yy_T T cl cb cw) (h4 : yy_S cl cb cw 4 p) (h5 : yy_S cl cb cw 5 q) (hhi : yy_hi cl0 cb0 cw0 cl cb cw)
    (hpre : ∀ i, i < p.1.length → i < q.1.length → p.1.getD i 0 = q.1.getD i 0) (hp8 : p.2 < 8) (hq8 : q.2 < 8) (fp : p.2 < 4 → T p.2 = ([], p.2)) (fq : q.2 < 4 → T q.2 = ([], q.2)) (hwp : wd_ok p.1) (hwq : wd_ok q.1) (hlp : p.1.length ≤ 3 * 2 ^ (4 - yg_fr T)) (hlq : q.1.length ≤ 3 * 2 ^ (4 - yg_fr T)) {post : Int32 → SY → Prop}
    (h1 : ∀ T' cl cb cw, yg_G T' → yy_T T' cl cb cw → (∀ s, ch_sv s T' ↔ ch_sv s T ∧ ch_v s p = ch_v s q) → yy_hi cl0 cb0 cw0 cl cb cw → post 1 (f_bags, f_elems, f_maxBasis, f_maxWord, f_state, f_cur, f_n, f_atoms, f_pendLen, b_pend, b_base, b_atomLen, b_atomWord, b_mult, b_basis, cl, cb, cw))
    (h0 : (∀ s, ¬ ch_v s p = ch_v s q) → post 0 (f_bags, f_elems, f_maxBasis, f_maxWord, f_state, f_cur, f_n, f_atoms, f_pendLen, b_pend, b_base, b_atomLen, b_atomWord, b_mult, b_basis, cl, cb, cw)) {z : Int32}
    (hz : (z = 0 ∧ p.1.length ≤ q.1.length ∧ (p.1.length = q.1.length → p.2 ≠ q.2 ∧ (4 ≤ p.2 → 4 ≤ q.2) ∧ (q.2 < 4 → p.2 < 4 → q.2 < p.2))) ∨ (z = 1 ∧ q.1.length ≤ p.1.length ∧ (q.1.length = p.1.length → q.2 ≠ p.2 ∧ (4 ≤ q.2 → 4 ≤ p.2) ∧ (p.2 < 4 → q.2 < 4 → p.2 < q.2)))) :
    wY_unify_159 post z f_bags f_elems f_maxBasis f_maxWord f_state f_cur f_n f_atoms f_pendLen b_pend b_base b_atomLen b_atomWord b_mult b_basis cl cb cw := by
  obtain ⟨wp, xp⟩ := p
  obtain ⟨wq, xq⟩ := q
  unfold wY_unify_159
  rcases hz with ⟨e, hle, hq⟩ | ⟨e, hle, hq⟩
  · refine br_t e ?_
    exact yu_175 G (Or.inl ⟨rfl, rfl⟩) hT h4 h5 hhi hle (fun i hi => hpre i hi (Nat.lt_of_lt_of_le hi hle)) hp8 hq8 fp fq hwq hlq (fun z => (hq z).1) (fun z => (hq z).2.1) (fun z => (hq z).2.2) h1 h0
  · refine br_f (by rw [e]; decide) ?_
    refine yu_175 G (Or.inr ⟨rfl, rfl⟩) hT h5 h4 hhi hle (fun i hi => (hpre i (Nat.lt_of_lt_of_le hi hle) hi).symm) hq8 hp8 fq fp hwp hlp (fun z => (hq z).1) (fun z => (hq z).2.1) (fun z => (hq z).2.2) (fun T' cl' cb' cw' a1 a2 a3 a4 => h1 T' cl' cb' cw' a1 a2 (fun s => (a3 s).trans ⟨fun r => ⟨r.1, r.2.symm⟩, fun r => ⟨r.1, r.2.symm⟩⟩) a4) (fun hn => h0 (fun s r => hn s r.symm))
theorem yu_85 (G : yg_G T) {p q : ch_C} {cl cb cw cl0 cb0 cw0 : Nat → Int32} (hT : yy_T T cl cb cw) (h4 : yy_S cl cb cw 4 p) (h5 : yy_S cl cb cw 5 q) (hhi : yy_hi cl0 cb0 cw0 cl cb cw)
    (hpre : ∀ i, i < p.1.length → i < q.1.length → p.1.getD i 0 = q.1.getD i 0) (hp8 : p.2 < 8) (hq8 : q.2 < 8) (fp : p.2 < 4 → T p.2 = ([], p.2)) (fq : q.2 < 4 → T q.2 = ([], q.2)) (hwp : wd_ok p.1) (hwq : wd_ok q.1) (hlp : p.1.length ≤ 3 * 2 ^ (4 - yg_fr T)) (hlq : q.1.length ≤ 3 * 2 ^ (4 - yg_fr T)) {post : Int32 → SY → Prop}
    (h1 : ∀ T' cl cb cw, yg_G T' → yy_T T' cl cb cw → (∀ s, ch_sv s T' ↔ ch_sv s T ∧ ch_v s p = ch_v s q) → yy_hi cl0 cb0 cw0 cl cb cw → post 1 (f_bags, f_elems, f_maxBasis, f_maxWord, f_state, f_cur, f_n, f_atoms, f_pendLen, b_pend, b_base, b_atomLen, b_atomWord, b_mult, b_basis, cl, cb, cw))
    (h0 : (∀ s, ¬ ch_v s p = ch_v s q) → post 0 (f_bags, f_elems, f_maxBasis, f_maxWord, f_state, f_cur, f_n, f_atoms, f_pendLen, b_pend, b_base, b_atomLen, b_atomWord, b_mult, b_basis, cl, cb, cw)) :
    wY_unify_65 post f_bags f_elems f_maxBasis f_maxWord f_state f_cur f_n f_atoms f_pendLen b_pend b_base b_atomLen b_atomWord b_mult b_basis cl cb cw := by
  have h48 := yg_48 T
  have go := fun z hz => yu_159 (f_bags := f_bags) (f_elems := f_elems) (f_maxBasis := f_maxBasis) (f_maxWord := f_maxWord) (f_state := f_state) (f_cur := f_cur) (f_n := f_n) (f_atoms := f_atoms) (f_pendLen := f_pendLen) (b_pend := b_pend) (b_base := b_base) (b_atomLen := b_atomLen) (b_atomWord := b_atomWord) (b_mult := b_mult) (b_basis := b_basis) G hT h4 h5 hhi hpre hp8 hq8 fp fq hwp hwq hlp hlq h1 h0 (z := z) hz
  unfold wY_unify_65
  rw [h4.1, h5.1]
  refine pk_le p.1.length q.1.length (fun g => ?_) (fun g => ?_)
  · unfold wY_unify_85
    rw [h4.1, h5.1, h4.2.1, h5.2.1]
    refine pk_eq p.1.length q.1.length (fun e => ?_) (fun e => ?_)
    · refine pk_eq p.2 q.2 (fun e2 => ?_) (fun e2 => ?_)
      · have epq : p = q := Prod.ext (List.ext_getElem? (fun i => by
          by_cases hi : i < p.1.length
          · have := hpre i hi (by omega)
            rw [List.getD_eq_getElem?_getD, List.getD_eq_getElem?_getD, List.getElem?_eq_getElem hi, List.getElem?_eq_getElem (show i < q.1.length by omega)] at this
            rw [List.getElem?_eq_getElem hi, List.getElem?_eq_getElem (show i < q.1.length by omega)]
            exact congrArg some this
          · rw [List.getElem?_eq_none (by omega), List.getElem?_eq_none (by omega)])) e2
        exact h1 T cl cb cw G hT (fun s => ⟨fun r => ⟨r, by rw [epq]⟩, fun r => r.1⟩) hhi
      · refine pk_le 4 p.2 (fun g4 => ?_) (fun g4 => ?_)
        · exact go 1 (Or.inr ⟨rfl, by omega, fun _ => ⟨fun z => e2 z.symm, fun _ => g4, fun z => by omega⟩⟩)
        · refine pk_le 4 q.2 (fun g5 => ?_) (fun g5 => ?_)
          · exact go 0 (Or.inl ⟨rfl, g, fun _ => ⟨e2, fun z => by omega, fun z => by omega⟩⟩)
          · refine pk_le q.2 p.2 (fun g6 => ?_) (fun g6 => ?_)
            · exact go 0 (Or.inl ⟨rfl, g, fun _ => ⟨e2, fun z => by omega, fun _ _ => by omega⟩⟩)
            · exact go 1 (Or.inr ⟨rfl, by omega, fun _ => ⟨fun z => e2 z.symm, fun z => by omega, fun _ _ => g6⟩⟩)
    · exact go 0 (Or.inl ⟨rfl, g, fun z => absurd z e⟩)
  · unfold wY_unify_85
    rw [h4.1, h5.1]
    refine pk_eq p.1.length q.1.length (fun e => absurd e (by omega)) (fun e => ?_)
    exact go 1 (Or.inr ⟨rfl, by omega, fun z => absurd z (by omega)⟩)
theorem yu_14 (G : yg_G T) {p q : ch_C} {cl cb cw cl0 cb0 cw0 : Nat → Int32} (hT : yy_T T cl cb cw) (h4 : yy_S cl cb cw 4 p) (h5 : yy_S cl cb cw 5 q) (hhi : yy_hi cl0 cb0 cw0 cl cb cw)
    (hp8 : p.2 < 8) (hq8 : q.2 < 8) (fp : p.2 < 4 → T p.2 = ([], p.2)) (fq : q.2 < 4 → T q.2 = ([], q.2)) (hwp : wd_ok p.1) (hwq : wd_ok q.1) (hlp : p.1.length ≤ 3 * 2 ^ (4 - yg_fr T)) (hlq : q.1.length ≤ 3 * 2 ^ (4 - yg_fr T)) {post : Int32 → SY → Prop}
    (h1 : ∀ T' cl cb cw, yg_G T' → yy_T T' cl cb cw → (∀ s, ch_sv s T' ↔ ch_sv s T ∧ ch_v s p = ch_v s q) → yy_hi cl0 cb0 cw0 cl cb cw → post 1 (f_bags, f_elems, f_maxBasis, f_maxWord, f_state, f_cur, f_n, f_atoms, f_pendLen, b_pend, b_base, b_atomLen, b_atomWord, b_mult, b_basis, cl, cb, cw))
    (h0 : (∀ s, ¬ ch_v s p = ch_v s q) → post 0 (f_bags, f_elems, f_maxBasis, f_maxWord, f_state, f_cur, f_n, f_atoms, f_pendLen, b_pend, b_base, b_atomLen, b_atomWord, b_mult, b_basis, cl, cb, cw)) :
    ∀ n i, i ≤ p.1.length → p.1.length < n + i → (∀ j, j < i → j < q.1.length → p.1.getD j 0 = q.1.getD j 0) → wY_unify_14 post f_bags f_elems f_maxBasis f_maxWord f_state f_cur f_n f_atoms f_pendLen b_pend b_base b_atomLen b_atomWord b_mult b_basis cl cb cw n (nI i) := by
  have h48 := yg_48 T
  intro n
  induction n with
  | zero => intro i h1 h2; omega
  | succ n ih =>
    intro i hi hn hpre
    unfold wY_unify_14
    rw [h4.1, h5.1]
    refine pk_le p.1.length i (fun g => ?_) (fun g => pk_le q.1.length i (fun g2 => ?_) (fun g2 => ?_))
    · exact yu_85 G hT h4 h5 hhi (fun j hj hj2 => hpre j (by omega) hj2) hp8 hq8 fp fq hwp hwq hlp hlq h1 h0
    · exact yu_85 G hT h4 h5 hhi (fun j hj hj2 => hpre j (by omega) hj2) hp8 hq8 fp fq hwp hwq hlp hlq h1 h0
    · have e4 : 256 + nI i = nI (256 + i) := nI_add 256 i
      have e5 : 320 + nI i = nI (320 + i) := nI_add 320 i
      have w4 : cw (256 + i) = nI (p.1.getD i 0) := h4.2.2.2 i g
      have w5 : cw (320 + i) = nI (q.1.getD i 0) := h5.2.2.2 i g2
      have sp : p.1.getD i 0 < 4 := by
        rw [List.getD_eq_getElem?_getD, List.getElem?_eq_getElem g]
        exact (hwp _ (List.getElem_mem g)).2
      have sq : q.1.getD i 0 < 4 := by
        rw [List.getD_eq_getElem?_getD, List.getElem?_eq_getElem g2]
        exact (hwq _ (List.getElem_mem g2)).2
      rw [e4, e5, nI_clamp (show 256 + i < 2 ^ 31 by omega), nI_clamp (show 320 + i < 2 ^ 31 by omega), w4, w5]
      refine ⟨vp_in_nI (by omega) (by omega), vp_in_nI (by omega) (by omega), ?_⟩
      refine pk_eq (p.1.getD i 0) (q.1.getD i 0) (fun e => nm_r (nI_1 i) (ih (i + 1) (by omega) (by omega) (fun j hj hj2 => ?_))) (fun e => h0 (fun s r => e (ch_pre r i g g2)))
      by_cases ej : j = i
      · rw [ej]; exact e
      · exact hpre j (by omega) hj2
variable {A : Nat} {cd : Nat → Nat} {wd : Nat → List Nat}
theorem yu_unify (hfd : fd_ok A cd wd) (hF : yf_A A cd wd f_atoms b_base b_atomLen b_atomWord) (G : yg_G T) (hT : yy_T T b_cLen b_cBase b_cWord) {a b : Nat} (ha : a < A) (hb : b < A) (hca : cd a < 20) (hcb : cd b < 20) {post : Int32 → SY → Prop}
    (h1 : ∀ T' cl cb cw, yg_G T' → yy_T T' cl cb cw → (∀ s, ch_sv s T' ↔ ch_sv s T ∧ ch_v s (wd a, cd a) = ch_v s (wd b, cd b)) → yy_hi b_cLen b_cBase b_cWord cl cb cw → post 1 (f_bags, f_elems, f_maxBasis, f_maxWord, f_state, f_cur, f_n, f_atoms, f_pendLen, b_pend, b_base, b_atomLen, b_atomWord, b_mult, b_basis, cl, cb, cw))
    (h0 : ∀ cl cb cw, (∀ s, ¬ (ch_sv s T ∧ ch_v s (wd a, cd a) = ch_v s (wd b, cd b))) → yy_hi b_cLen b_cBase b_cWord cl cb cw → post 0 (f_bags, f_elems, f_maxBasis, f_maxWord, f_state, f_cur, f_n, f_atoms, f_pendLen, b_pend, b_base, b_atomLen, b_atomWord, b_mult, b_basis, cl, cb, cw)) : wpY_unify post (f_bags, f_elems, f_maxBasis, f_maxWord, f_state, f_cur, f_n, f_atoms, f_pendLen, b_pend, b_base, b_atomLen, b_atomWord, b_mult, b_basis, b_cLen, b_cBase, b_cWord) (nI a) (nI b) := by
  obtain ⟨_, p2, _, p4, p5⟩ := hfd.2.1 a ha
  obtain ⟨_, q2, _, q4, q5⟩ := hfd.2.1 b hb
  obtain ⟨ia1, ia2, ia3, ia4⟩ := yg_img G p5 p4 (p2 hca)
  obtain ⟨ib1, ib2, ib3, ib4⟩ := yg_img G q5 q4 (q2 hcb)
  have h48 := yg_48 T
  unfold wpY_unify
  refine yy_image (s := 4) hfd hF ha (by omega) (by omega) hT (by omega) (fun cl1 cb1 cw1 k1 s1 => ?_)
  refine yy_image (s := 5) hfd hF hb (by omega) (by omega) (fun v hv => yy_keep_S k1 (by omega) (hT v hv)) (by omega) (fun cl2 cb2 cw2 k2 s2 => ⟨(ch_v T (wd a, cd a)).1.length + 1, ?_⟩)
  have hT2 : yy_T T cl2 cb2 cw2 := fun v hv => yy_keep_S k2 (by omega) (yy_keep_S k1 (by omega) (hT v hv))
  have hhi : yy_hi b_cLen b_cBase b_cWord cl2 cb2 cw2 := yy_hi_tr (yy_hi_keep k1 (by omega)) (yy_hi_keep k2 (by omega))
  refine yu_14 G hT2 (yy_keep_S k2 (by omega) s1) s2 hhi ia3 ib3 ia4 ib4 ia2 ib2 ia1 ib1 (fun T' cl cb cw a1 a2 a3 a4 => h1 T' cl cb cw a1 a2 (fun s => (a3 s).trans ?_) a4) (fun hn => h0 cl2 cb2 cw2 (fun s r => hn s ?_) hhi) _ 0 (Nat.zero_le _) (by omega) (fun j hj => absurd hj (Nat.not_lt_zero j))
  · constructor
    · intro r
      refine ⟨r.1, ?_⟩
      rw [← ch_sv_v r.1 (wd a, cd a), ← ch_sv_v r.1 (wd b, cd b)]; exact r.2
    · intro r
      refine ⟨r.1, ?_⟩
      rw [ch_sv_v r.1, ch_sv_v r.1]; exact r.2
  · rw [ch_sv_v r.1, ch_sv_v r.1]; exact r.2
end YU
end
section
/-! the reference: does some substitution fit a mask -/
theorem yb_f2 : ∀ n a, rx_f (fun _ => 2) n a = 2 * n
  | 0, _ => rfl
  | n + 1, a => by
    show 2 + rx_f (fun _ => 2) n (a + 1) = 2 * (n + 1)
    rw [yb_f2 n (a + 1)]
    omega
theorem yb_s2 (A a : Nat) : rx_s (fun _ => 2) A a = 2 * (A - 1 - a) := yb_f2 _ _
theorem yb_e4 (A x a : Nat) : rx_e (fun _ => 2) A x a < 4 := rx_e_lt (fun _ => 2) A x a
def yt_c (cd : Nat → Nat) (B : Nat → Nat → Nat) (m k a b : Nat) : Prop := m.testBit k = true ∧ cd a < 20 ∧ cd b < 20 ∧ B k a = 1 ∧ B k b = 1
def yt_F1 (A : Nat) (cd : Nat → Nat) (B : Nat → Nat → Nat) (tm : Nat → ch_C) (m k : Nat) (s : Nat → ch_C) : Prop := ∀ k', k' < k → ∀ a b, a < b → b < A → yt_c cd B m k' a b → ch_v s (tm a) = ch_v s (tm b)
def yt_F2 (A : Nat) (cd : Nat → Nat) (B : Nat → Nat → Nat) (tm : Nat → ch_C) (m k a : Nat) (s : Nat → ch_C) : Prop := ∀ a', a' < a → ∀ b, a' < b → b < A → yt_c cd B m k a' b → ch_v s (tm a') = ch_v s (tm b)
def yt_F3 (cd : Nat → Nat) (B : Nat → Nat → Nat) (tm : Nat → ch_C) (m k a b : Nat) (s : Nat → ch_C) : Prop := ∀ b', a < b' → b' < b → yt_c cd B m k a b' → ch_v s (tm a) = ch_v s (tm b')
theorem yt_slv {A N : Nat} {cd : Nat → Nat} {B : Nat → Nat → Nat} {tm : Nat → ch_C} {m : Nat} {s : Nat → ch_C} : mk_slv A N B cd tm m s ↔ yt_F1 A cd B tm m N s := by
  constructor
  · intro h k hk a b hab hb hc
    exact h k hk hc.1 a b (by omega) hb hc.2.1 hc.2.2.1 hc.2.2.2.1 hc.2.2.2.2
  · intro h k hk hbit a b ha hb ca cb Ba Bb
    rcases Nat.lt_trichotomy a b with g | g | g
    · exact h k hk a b g hb ⟨hbit, ca, cb, Ba, Bb⟩
    · rw [g]
    · exact (h k hk b a g ha ⟨hbit, cb, ca, Bb, Ba⟩).symm
/-- what the reference holds of the basis -/
def so_Y (A N : Nat) (B : Nat → Nat → Nat) (fn : Int32) (bas : Nat → Int32) : Prop := N ≤ 12 ∧ fn = nI N ∧ ∃ bY : Nat → Nat, ∀ k, k < N → bas k = nI (bY k) ∧ bY k < 2 ^ 31 ∧ ∀ a, a < A → rx_e (fun _ => 2) A (bY k) a = B k a
section YF
variable {f_bags f_elems f_maxBasis f_maxWord f_state f_cur f_n f_atoms f_pendLen : Int32} {b_pend b_base b_atomLen b_atomWord b_mult b_basis b_cLen b_cBase b_cWord : Nat → Int32}
variable {A N : Nat} {cd : Nat → Nat} {wd : Nat → List Nat} {B : Nat → Nat → Nat} {m : Nat}
theorem yb_entry (hA8 : A ≤ 8) (hfa : f_atoms = nI A) {x a : Nat} (hx : x < 2 ^ 31) (ha : a < A) {post : Int32 → Prop} (h : post (nI (rx_e (fun _ => 2) A x a))) : wpY_entry post (f_bags, f_elems, f_maxBasis, f_maxWord, f_state, f_cur, f_n, f_atoms, f_pendLen, b_pend, b_base, b_atomLen, b_atomWord, b_mult, b_basis, b_cLen, b_cBase, b_cWord) (nI x) (nI a) := by
  have e : (nI x >>> ((2 * ((f_atoms - 1) - nI a)) &&& 31)) &&& 3 = nI (rx_e (fun _ => 2) A x a) := by
    have h2 : x / 2 ^ (2 * (A - 1 - a)) ≤ x := Nat.div_le_self _ _
    rw [hfa, ib_s1 (by omega), pk_sub (by omega), ib_2m, ib_shr hx (by omega), ib_and3 (by omega)]
    show _ = nI (x / 2 ^ rx_s (fun _ => 2) A a % 2 ^ 2)
    rw [yb_s2]
  show post ((nI x >>> ((2 * ((f_atoms - 1) - nI a)) &&& 31)) &&& 3)
  rw [e]
  exact h
theorem yb_basis (hA8 : A ≤ 8) (hfa : f_atoms = nI A) (hY : so_Y A N B f_n b_basis) {k a : Nat} (hk : k < N) (ha : a < A) {post : Int32 → Prop} (h : post (nI (B k a))) : wpY_entry post (f_bags, f_elems, f_maxBasis, f_maxWord, f_state, f_cur, f_n, f_atoms, f_pendLen, b_pend, b_base, b_atomLen, b_atomWord, b_mult, b_basis, b_cLen, b_cBase, b_cWord) (b_basis k) (nI a) := by
  obtain ⟨_, _, bY, hb⟩ := hY
  obtain ⟨b1, b2, b3⟩ := hb k hk
  rw [b1]
  refine yb_entry hA8 hfa b2 ha ?_
  rw [b3 a ha]
  exact h
theorem yb_B3 (hY : so_Y A N B f_n b_basis) {k a : Nat} (hk : k < N) (ha : a < A) : B k a < 4 := by
  obtain ⟨_, _, bY, hb⟩ := hY
  rw [← (hb k hk).2.2 a ha]
  exact yb_e4 A _ a
theorem yt_52 (hfd : fd_ok A cd wd) (hF : yf_A A cd wd f_atoms b_base b_atomLen b_atomWord) (hY : so_Y A N B f_n b_basis) (hm : m < 2 ^ 31) {k a : Nat} (hk : k < N) (ha : a < A) {cl0 cb0 cw0 : Nat → Int32} {post : Int32 → SY → Prop} {J29 J39 : Int32 → Int32 → Int32 → Int32 → Int32 → Int32 → Int32 → Int32 → Int32 → Int32 → (Nat → Int32) → (Nat → Int32) → (Nat → Int32) → (Nat → Int32) → (Nat → Int32) → (Nat → Int32) → (Nat → Int32) → (Nat → Int32) → (Nat → Int32) → Prop}
    (hJ : ∀ T cl cb cw, yg_G T → yy_T T cl cb cw → (∀ s, ch_sv s T ↔ yt_F1 A cd B (fun a => (wd a, cd a)) m k s ∧ yt_F2 A cd B (fun a => (wd a, cd a)) m k (a + 1) s) → yy_hi cl0 cb0 cw0 cl cb cw → J39 (nI (a + 1)) f_bags f_elems f_maxBasis f_maxWord f_state f_cur f_n f_atoms f_pendLen b_pend b_base b_atomLen b_atomWord b_mult b_basis cl cb cw)
    (h0 : ∀ cl cb cw, (∀ s, ¬ mk_slv A N B cd (fun a => (wd a, cd a)) m s) → yy_hi cl0 cb0 cw0 cl cb cw → post 0 (f_bags, f_elems, f_maxBasis, f_maxWord, f_state, f_cur, f_n, f_atoms, f_pendLen, b_pend, b_base, b_atomLen, b_atomWord, b_mult, b_basis, cl, cb, cw)) :
    ∀ n b T cl cb cw, a < b → b ≤ A → A < n + b → yg_G T → yy_T T cl cb cw → (∀ s, ch_sv s T ↔ yt_F1 A cd B (fun a => (wd a, cd a)) m k s ∧ yt_F2 A cd B (fun a => (wd a, cd a)) m k a s ∧ yt_F3 cd B (fun a => (wd a, cd a)) m k a b s) → yy_hi cl0 cb0 cw0 cl cb cw →
      wY_fits_52 post J29 J39 (nI m) (nI k) (nI a) n (nI b) f_bags f_elems f_maxBasis f_maxWord f_state f_cur f_n f_atoms f_pendLen b_pend b_base b_atomLen b_atomWord b_mult b_basis cl cb cw := by
  have hA8 := hfd.1
  have hN := hY.1
  have hfa := hF.1
  intro n
  induction n with
  | zero => intro b T cl cb cw h1 h2 h3; omega
  | succ n ih =>
    intro b T cl cb cw hab hb hn G hT hs hhi
    have ia : vp_in (nI a) 8 := vp_in_nI (by omega) (by omega)
    have ca : (nI a).toNatClampNeg = a := nI_clamp (by omega)
    have ik : vp_in (nI k) 12 := vp_in_nI (by omega) (by omega)
    have ck : (nI k).toNatClampNeg = k := nI_clamp (by omega)
    unfold wY_fits_52
    refine pk_le A b (fun g => nm_r (nI_1 a) (hJ T cl cb cw G hT (fun s => (hs s).trans ?_) hhi)) (fun g => ?_) hfa rfl
    · have eb : b = A := by omega
      subst eb
      constructor
      · intro ⟨q1, q2, q3⟩
        refine ⟨q1, fun a' ha' b' h1 h2 hc => ?_⟩
        by_cases e : a' = a
        · subst e; exact q3 b' h1 h2 hc
        · exact q2 a' (by omega) b' h1 h2 hc
      · intro ⟨q1, q2⟩
        exact ⟨q1, fun a' ha' => q2 a' (by omega), fun b' h1 h2 hc => q2 a (by omega) b' h1 h2 hc⟩
    · have ib : vp_in (nI b) 8 := vp_in_nI (by omega) (by omega)
      have cb' : (nI b).toNatClampNeg = b := nI_clamp (by omega)
      have skip : ¬ yt_c cd B m k a b → wY_fits_128 post J29 J39 (wY_fits_52 post J29 J39 (nI m) (nI k) (nI a) n) (nI m) (nI k) (nI a) (nI b) f_bags f_elems f_maxBasis f_maxWord f_state f_cur f_n f_atoms f_pendLen b_pend b_base b_atomLen b_atomWord b_mult b_basis cl cb cw := by
        intro hno
        unfold wY_fits_128 wY_fits_129
        refine br_t rfl (nm_r (nI_1 b) (ih (b + 1) T cl cb cw (by omega) (by omega) (by omega) G hT (fun s => (hs s).trans ?_) hhi))
        constructor
        · intro ⟨q1, q2, q3⟩
          refine ⟨q1, q2, fun b' h1 h2 hc => ?_⟩
          by_cases e : b' = b
          · subst e; exact absurd hc hno
          · exact q3 b' h1 (by omega) hc
        · intro ⟨q1, q2, q3⟩
          exact ⟨q1, q2, fun b' h1 h2 hc => q3 b' h1 (by omega) hc⟩
      obtain ⟨ga1, _, _⟩ := hF.2 a ha
      obtain ⟨gb1, _, _⟩ := hF.2 b g
      have hca25 := (hfd.2.1 a ha).1
      have hcb25 := (hfd.2.1 b g).1
      rw [ca, cb', ck, ga1, gb1]
      by_cases hbit : m.testBit k = true
      · refine br_t ((ib_bit1 hm (by omega)).mpr hbit) ⟨ia, ?_⟩
        refine pk_le 20 (cd a) (fun g1 => skip (fun q => by have := q.2.1; omega)) (fun g1 => ⟨ib, ?_⟩)
        refine pk_le 20 (cd b) (fun g2 => skip (fun q => by have := q.2.2.1; omega)) (fun g2 => ⟨ik, ?_⟩)
        have hB1 := yb_B3 hY hk ha
        have hB2 := yb_B3 hY hk g
        refine yb_basis hA8 hfa hY hk ha (pk_eq (B k a) 1 (fun g3 => ⟨ik, yb_basis hA8 hfa hY hk g (pk_eq (B k b) 1 (fun g4 => ?_) (fun g4 => skip (fun q => g4 q.2.2.2.2)))⟩) (fun g3 => skip (fun q => g3 q.2.2.2.1)))
        unfold wY_fits_129
        refine br_f (by decide) (yu_unify hfd hF G hT ha g g1 g2 (fun T' cl' cb' cw' a1 a2 a3 a4 => br_f (by decide) (nm_r (nI_1 b) (ih (b + 1) T' cl' cb' cw' (by omega) (by omega) (by omega) a1 a2 (fun s => (a3 s).trans ?_) (yy_hi_tr hhi a4)))) (fun cl' cb' cw' a1 a2 => br_t rfl (h0 cl' cb' cw' (fun s hslv => a1 s ?_) (yy_hi_tr hhi a2))))
        · rw [hs s]
          constructor
          · intro ⟨⟨q1, q2, q3⟩, q4⟩
            refine ⟨q1, q2, fun b' h1 h2 hc => ?_⟩
            by_cases e : b' = b
            · subst e; exact q4
            · exact q3 b' h1 (by omega) hc
          · intro ⟨q1, q2, q3⟩
            exact ⟨⟨q1, q2, fun b' h1 h2 hc => q3 b' h1 (by omega) hc⟩, q3 b hab (by omega) ⟨hbit, g1, g2, g3, g4⟩⟩
        · have hall := yt_slv.mp hslv
          rw [hs s]
          exact ⟨⟨fun k' hk' => hall k' (by omega), fun a' ha' => hall k hk a', fun b' h1 h2 hc => hall k hk a b' h1 (by omega) hc⟩, hall k hk a b hab g ⟨hbit, g1, g2, g3, g4⟩⟩
      · exact br_f (fun q => hbit ((ib_bit1 hm (by omega)).mp q)) (skip (fun q => hbit q.1))
theorem yt_39 (hfd : fd_ok A cd wd) (hF : yf_A A cd wd f_atoms b_base b_atomLen b_atomWord) (hY : so_Y A N B f_n b_basis) (hm : m < 2 ^ 31) {k : Nat} (hk : k < N) {cl0 cb0 cw0 : Nat → Int32} {post : Int32 → SY → Prop} {J29 : Int32 → Int32 → Int32 → Int32 → Int32 → Int32 → Int32 → Int32 → Int32 → Int32 → (Nat → Int32) → (Nat → Int32) → (Nat → Int32) → (Nat → Int32) → (Nat → Int32) → (Nat → Int32) → (Nat → Int32) → (Nat → Int32) → (Nat → Int32) → Prop}
    (hJ : ∀ T cl cb cw, yg_G T → yy_T T cl cb cw → (∀ s, ch_sv s T ↔ yt_F1 A cd B (fun a => (wd a, cd a)) m (k + 1) s) → yy_hi cl0 cb0 cw0 cl cb cw → J29 (nI (k + 1)) f_bags f_elems f_maxBasis f_maxWord f_state f_cur f_n f_atoms f_pendLen b_pend b_base b_atomLen b_atomWord b_mult b_basis cl cb cw)
    (h0 : ∀ cl cb cw, (∀ s, ¬ mk_slv A N B cd (fun a => (wd a, cd a)) m s) → yy_hi cl0 cb0 cw0 cl cb cw → post 0 (f_bags, f_elems, f_maxBasis, f_maxWord, f_state, f_cur, f_n, f_atoms, f_pendLen, b_pend, b_base, b_atomLen, b_atomWord, b_mult, b_basis, cl, cb, cw)) :
    ∀ n a T cl cb cw, a ≤ A → A < n + a → yg_G T → yy_T T cl cb cw → (∀ s, ch_sv s T ↔ yt_F1 A cd B (fun a => (wd a, cd a)) m k s ∧ yt_F2 A cd B (fun a => (wd a, cd a)) m k a s) → yy_hi cl0 cb0 cw0 cl cb cw →
      wY_fits_39 post J29 (nI m) (nI k) n (nI a) f_bags f_elems f_maxBasis f_maxWord f_state f_cur f_n f_atoms f_pendLen b_pend b_base b_atomLen b_atomWord b_mult b_basis cl cb cw := by
  have hA8 := hfd.1
  have hN := hY.1
  intro n
  induction n with
  | zero => intro a T cl cb cw h1 h2; omega
  | succ n ih =>
    intro a T cl cb cw ha hn G hT hs hhi
    unfold wY_fits_39
    refine pk_le A a (fun g => nm_r (nI_1 k) (hJ T cl cb cw G hT (fun s => (hs s).trans ?_) hhi)) (fun g => nm_r (nI_1 a) ⟨A + 1, ?_⟩) hF.1 rfl
    · constructor
      · intro ⟨q1, q2⟩ k' hk' a' b h1 h2 hc
        by_cases e : k' = k
        · subst e; exact q2 a' (by omega) b h1 h2 hc
        · exact q1 k' (by omega) a' b h1 h2 hc
      · intro q
        exact ⟨fun k' hk' => q k' (by omega), fun a' _ b h1 h2 hc => q k (by omega) a' b h1 h2 hc⟩
    · refine yt_52 hfd hF hY hm hk g (fun T' cl' cb' cw' a1 a2 a3 a4 => ih (a + 1) T' cl' cb' cw' (by omega) (by omega) a1 a2 a3 a4) h0 (A + 1) (a + 1) T cl cb cw (by omega) (by omega) (by omega) G hT (fun s => (hs s).trans ?_) hhi
      exact ⟨fun q => ⟨q.1, q.2, fun b' h1 h2 => by omega⟩, fun q => ⟨q.1, q.2.1⟩⟩
theorem yt_29 (hfd : fd_ok A cd wd) (hF : yf_A A cd wd f_atoms b_base b_atomLen b_atomWord) (hY : so_Y A N B f_n b_basis) (hm : m < 2 ^ 31) {cl0 cb0 cw0 : Nat → Int32} {post : Int32 → SY → Prop}
    (h1 : ∀ T cl cb cw, yg_G T → yy_T T cl cb cw → (∀ s, ch_sv s T ↔ mk_slv A N B cd (fun a => (wd a, cd a)) m s) → yy_hi cl0 cb0 cw0 cl cb cw → post 1 (f_bags, f_elems, f_maxBasis, f_maxWord, f_state, f_cur, f_n, f_atoms, f_pendLen, b_pend, b_base, b_atomLen, b_atomWord, b_mult, b_basis, cl, cb, cw))
    (h0 : ∀ cl cb cw, (∀ s, ¬ mk_slv A N B cd (fun a => (wd a, cd a)) m s) → yy_hi cl0 cb0 cw0 cl cb cw → post 0 (f_bags, f_elems, f_maxBasis, f_maxWord, f_state, f_cur, f_n, f_atoms, f_pendLen, b_pend, b_base, b_atomLen, b_atomWord, b_mult, b_basis, cl, cb, cw)) :
    ∀ n k T cl cb cw, k ≤ N → N < n + k → yg_G T → yy_T T cl cb cw → (∀ s, ch_sv s T ↔ yt_F1 A cd B (fun a => (wd a, cd a)) m k s) → yy_hi cl0 cb0 cw0 cl cb cw →
      wY_fits_29 post (nI m) n (nI k) f_bags f_elems f_maxBasis f_maxWord f_state f_cur f_n f_atoms f_pendLen b_pend b_base b_atomLen b_atomWord b_mult b_basis cl cb cw := by
  have hA8 := hfd.1
  have hN := hY.1
  intro n
  induction n with
  | zero => intro k T cl cb cw h1 h2; omega
  | succ n ih =>
    intro k T cl cb cw hk hn G hT hs hhi
    unfold wY_fits_29
    refine pk_le N k (fun g => h1 T cl cb cw G hT (fun s => ?_) hhi) (fun g => ⟨A + 1, ?_⟩) hY.2.1 rfl
    · have : k = N := by omega
      subst this
      rw [hs s, yt_slv]
    · refine yt_39 hfd hF hY hm g (fun T' cl' cb' cw' a1 a2 a3 a4 => ih (k + 1) T' cl' cb' cw' (by omega) (by omega) a1 a2 a3 a4) h0 (A + 1) 0 T cl cb cw (Nat.zero_le _) (by omega) G hT (fun s => (hs s).trans ?_) hhi
      exact ⟨fun q => ⟨q, fun a' ha' => absurd ha' (Nat.not_lt_zero a')⟩, fun q => q.1⟩
theorem yt_2 (hfd : fd_ok A cd wd) (hF : yf_A A cd wd f_atoms b_base b_atomLen b_atomWord) (hY : so_Y A N B f_n b_basis) (hm : m < 2 ^ 31) {cl0 cb0 cw0 : Nat → Int32} {post : Int32 → SY → Prop}
    (h1 : ∀ T cl cb cw, yg_G T → yy_T T cl cb cw → (∀ s, ch_sv s T ↔ mk_slv A N B cd (fun a => (wd a, cd a)) m s) → yy_hi cl0 cb0 cw0 cl cb cw → post 1 (f_bags, f_elems, f_maxBasis, f_maxWord, f_state, f_cur, f_n, f_atoms, f_pendLen, b_pend, b_base, b_atomLen, b_atomWord, b_mult, b_basis, cl, cb, cw))
    (h0 : ∀ cl cb cw, (∀ s, ¬ mk_slv A N B cd (fun a => (wd a, cd a)) m s) → yy_hi cl0 cb0 cw0 cl cb cw → post 0 (f_bags, f_elems, f_maxBasis, f_maxWord, f_state, f_cur, f_n, f_atoms, f_pendLen, b_pend, b_base, b_atomLen, b_atomWord, b_mult, b_basis, cl, cb, cw)) :
    ∀ n v cl cb, v ≤ 4 → 4 < n + v → (∀ u, u < v → cl u = 0 ∧ cb u = nI u) → yy_hi cl0 cb0 cw0 cl cb b_cWord →
      wY_fits_2 post (nI m) f_bags f_elems f_maxBasis f_maxWord f_state f_cur f_n f_atoms f_pendLen n (nI v) b_pend b_base b_atomLen b_atomWord b_mult b_basis cl cb b_cWord := by
  intro n
  induction n with
  | zero => intro v cl cb h1 h2; omega
  | succ n ih =>
    intro v cl cb hv hn hs hhi
    unfold wY_fits_2
    refine pk_le 4 v (fun g => ⟨N + 1, ?_⟩) (fun g => ?_)
    · refine yt_29 hfd hF hY hm h1 h0 (N + 1) 0 (fun v => ([], v)) cl cb b_cWord (Nat.zero_le _) (by omega) yg_id (fun u hu => ?_) (fun s => ?_) hhi
      · obtain ⟨q1, q2⟩ := hs u (by omega)
        exact ⟨q1, q2, Nat.zero_le _, fun p hp => absurd hp (Nat.not_lt_zero p)⟩
      · refine ⟨fun _ k' hk' => absurd hk' (Nat.not_lt_zero k'), fun _ v hv => ?_⟩
        exact (ch_v_var hv).symm
    · have iv : vp_in (nI v) 8 := vp_in_nI (by omega) (by omega)
      rw [nI_clamp (show v < 2 ^ 31 by omega)]
      refine ⟨iv, nm_e ⟨iv, nm_e (nm_r (nI_1 v) (ih (v + 1) _ _ (by omega) (by omega) (fun u hu => ?_) ⟨fun j hj => ?_, hhi.2⟩))⟩⟩
      · by_cases e : u = v
        · subst e; exact ⟨pk_us, pk_us⟩
        · rw [pk_un e, pk_un e]; exact hs u (by omega)
      · rw [pk_un (by omega), pk_un (by omega)]; exact hhi.1 j hj
theorem yt_fits (hfd : fd_ok A cd wd) (hF : yf_A A cd wd f_atoms b_base b_atomLen b_atomWord) (hY : so_Y A N B f_n b_basis) (hm : m < 2 ^ 31) {post : Int32 → SY → Prop}
    (h1 : ∀ T cl cb cw, yg_G T → yy_T T cl cb cw → (∀ s, ch_sv s T ↔ mk_slv A N B cd (fun a => (wd a, cd a)) m s) → yy_hi b_cLen b_cBase b_cWord cl cb cw → post 1 (f_bags, f_elems, f_maxBasis, f_maxWord, f_state, f_cur, f_n, f_atoms, f_pendLen, b_pend, b_base, b_atomLen, b_atomWord, b_mult, b_basis, cl, cb, cw))
    (h0 : ∀ cl cb cw, (∀ s, ¬ mk_slv A N B cd (fun a => (wd a, cd a)) m s) → yy_hi b_cLen b_cBase b_cWord cl cb cw → post 0 (f_bags, f_elems, f_maxBasis, f_maxWord, f_state, f_cur, f_n, f_atoms, f_pendLen, b_pend, b_base, b_atomLen, b_atomWord, b_mult, b_basis, cl, cb, cw)) : wpY_fits post (f_bags, f_elems, f_maxBasis, f_maxWord, f_state, f_cur, f_n, f_atoms, f_pendLen, b_pend, b_base, b_atomLen, b_atomWord, b_mult, b_basis, b_cLen, b_cBase, b_cWord) (nI m) :=
  ⟨5, yt_2 hfd hF hY hm h1 h0 5 0 _ _ (by omega) (by omega) (fun u hu => absurd hu (Nat.not_lt_zero u)) (yy_hi_rf _ _ _)⟩
end YF
end
section
/-! the reference: admissible masks -/
def yf_M (A : Nat) (lt rt : Nat → Nat) (c : Nat → Int) (mu : Nat → Int32) : Prop := ∀ a, a < A → mu a = nI (lt a) ∧ mu (8 + a) = nI (rt a) ∧ lt a ≤ 3 ∧ rt a ≤ 3 ∧ c a = (lt a : Int) - (rt a : Int)
theorem mk_sum_le {B : Nat → Nat → Nat} {m a : Nat} : ∀ n, (∀ k, k < n → B k a ≤ 3) → mk_sum B m a n ≤ 3 * n := by
  intro n
  induction n with
  | zero => intro _; exact Nat.le_refl _
  | succ n ih =>
    intro h
    have h1 := ih (fun k hk => h k (by omega))
    have h2 := h n (by omega)
    show mk_sum B m a n + (if m.testBit n = true then B n a else 0) ≤ 3 * (n + 1)
    split <;> omega
section YM
variable {f_bags f_elems f_maxBasis f_maxWord f_state f_cur f_n f_atoms f_pendLen : Int32} {b_pend b_base b_atomLen b_atomWord b_mult b_basis b_cLen b_cBase b_cWord : Nat → Int32}
variable {A N : Nat} {cd lt rt : Nat → Nat} {wd : Nat → List Nat} {B : Nat → Nat → Nat} {c : Nat → Int} {m : Nat}
theorem ym_coef (hA8 : A ≤ 8) (hM : yf_M A lt rt c b_mult) {a : Nat} (ha : a < A) {post : Int32 → Prop} (h : post (iI (c a))) : wpY_coefficient post (f_bags, f_elems, f_maxBasis, f_maxWord, f_state, f_cur, f_n, f_atoms, f_pendLen, b_pend, b_base, b_atomLen, b_atomWord, b_mult, b_basis, b_cLen, b_cBase, b_cWord) (nI a) := by
  obtain ⟨m1, m2, m3, m4, m5⟩ := hM a ha
  have e8 : 8 + nI a = nI (8 + a) := nI_add 8 a
  unfold wpY_coefficient
  dsimp only
  rw [e8, nI_clamp (show a < 2 ^ 31 by omega), nI_clamp (show 8 + a < 2 ^ 31 by omega), m1, m2, iI_sub, ← m5]
  exact ⟨vp_in_nI (by omega) (by omega), vp_in_nI (by omega) (by omega), h⟩
theorem ym_cz (hM : yf_M A lt rt c b_mult) {a : Nat} (ha : a < A) : iI (c a) = 0 ↔ c a = 0 := by
  obtain ⟨m1, m2, m3, m4, m5⟩ := hM a ha
  exact iI_eq0 (by omega) (by omega)
theorem ya_15 (hfd : fd_ok A cd wd) (hF : yf_A A cd wd f_atoms b_base b_atomLen b_atomWord) (hY : so_Y A N B f_n b_basis) (hM : yf_M A lt rt c b_mult) (hm : m < 2 ^ 31) {a : Nat} (ha : a < A) {post : Int32 → SY → Prop} {J : Int32 → Prop}
    (hJ : (c a ≠ 0 → 1 ≤ mk_sum B m a N ∧ (cd a < 20 → mk_sum B m a N = 1)) → J (nI (a + 1))) (h0 : ¬ (c a ≠ 0 → 1 ≤ mk_sum B m a N ∧ (cd a < 20 → mk_sum B m a N = 1)) → post 0 (f_bags, f_elems, f_maxBasis, f_maxWord, f_state, f_cur, f_n, f_atoms, f_pendLen, b_pend, b_base, b_atomLen, b_atomWord, b_mult, b_basis, b_cLen, b_cBase, b_cWord)) :
    ∀ n k, k ≤ N → N < n + k → wY_admissible_15 post J (nI m) (nI a) f_bags f_elems f_maxBasis f_maxWord f_state f_cur f_n f_atoms f_pendLen b_pend b_base b_atomLen b_atomWord b_mult b_basis b_cLen b_cBase b_cWord n (nI (mk_sum B m a k)) (nI k) := by
  have hA8 := hfd.1
  have hN := hY.1
  have hB3 : ∀ k, k < N → B k a ≤ 3 := fun k hk => by have := yb_B3 hY hk ha; omega
  intro n
  induction n with
  | zero => intro k h1 h2; omega
  | succ n ih =>
    intro k hk hn
    unfold wY_admissible_15
    have hsum := mk_sum_le (B := B) (m := m) (a := a) k (fun j hj => hB3 j (by omega))
    refine pk_le N k (fun g => ?_) (fun g => ?_) hY.2.1 rfl
    · have e : k = N := by omega
      subst e
      have ia : vp_in (nI a) 8 := vp_in_nI (by omega) (by omega)
      refine ym_coef hA8 hM ha ?_
      by_cases hz : c a = 0
      · exact br_t ((ym_cz hM ha).mpr hz) (nm_r (nI_1 a) (hJ (fun q => absurd hz q)))
      · refine br_f (fun q => hz ((ym_cz hM ha).mp q)) ?_
        refine pk_le 1 (mk_sum B m a k) (fun g1 => ⟨ia, ?_⟩) (fun g1 => h0 (fun q => by have := (q hz).1; omega))
        have hcd := (hfd.2.1 a ha).1
        rw [nI_clamp (show a < 2 ^ 31 by omega), (hF.2 a ha).1]
        refine pk_le 20 (cd a) (fun g2 => nm_r (nI_1 a) (hJ (fun _ => ⟨g1, fun z => by omega⟩))) (fun g2 => ?_)
        exact pk_eq (mk_sum B m a k) 1 (fun g3 => nm_r (nI_1 a) (hJ (fun _ => ⟨g1, fun _ => g3⟩))) (fun g3 => h0 (fun q => g3 ((q hz).2 g2)))
    · have hs : mk_sum B m a (k + 1) = mk_sum B m a k + (if m.testBit k = true then B k a else 0) := rfl
      by_cases hb : m.testBit k = true
      · rw [if_pos hb] at hs
        rw [nI_clamp (show k < 2 ^ 31 by omega)]
        refine br_t ((ib_bit1 hm (by omega)).mpr hb) ⟨vp_in_nI (by omega) (by omega), yb_basis hA8 hF.1 hY g ha ?_⟩
        rw [nI_add, ← hs]
        exact nm_e (nm_r (nI_1 k) (ih (k + 1) (by omega) (by omega)))
      · rw [if_neg hb] at hs
        have hs2 : mk_sum B m a (k + 1) = mk_sum B m a k := hs
        refine br_f (fun q => hb ((ib_bit1 hm (by omega)).mp q)) (nm_r (nI_1 k) ?_)
        rw [← hs2]
        exact ih (k + 1) (by omega) (by omega)
theorem ya_2 (hfd : fd_ok A cd wd) (hF : yf_A A cd wd f_atoms b_base b_atomLen b_atomWord) (hY : so_Y A N B f_n b_basis) (hM : yf_M A lt rt c b_mult) (hm : m < 2 ^ 31) {post : Int32 → SY → Prop}
    (h1 : ∀ T cl cb cw, yg_G T → yy_T T cl cb cw → (∀ s, ch_sv s T ↔ mk_slv A N B cd (fun a => (wd a, cd a)) m s) → mk_adm A N B cd (fun a => (wd a, cd a)) c m → yy_hi b_cLen b_cBase b_cWord cl cb cw → post 1 (f_bags, f_elems, f_maxBasis, f_maxWord, f_state, f_cur, f_n, f_atoms, f_pendLen, b_pend, b_base, b_atomLen, b_atomWord, b_mult, b_basis, cl, cb, cw))
    (h0 : ∀ cl cb cw, ¬ mk_adm A N B cd (fun a => (wd a, cd a)) c m → yy_hi b_cLen b_cBase b_cWord cl cb cw → post 0 (f_bags, f_elems, f_maxBasis, f_maxWord, f_state, f_cur, f_n, f_atoms, f_pendLen, b_pend, b_base, b_atomLen, b_atomWord, b_mult, b_basis, cl, cb, cw)) :
    ∀ n a, a ≤ A → A < n + a → (∀ b, b < a → c b ≠ 0 → 1 ≤ mk_sum B m b N ∧ (cd b < 20 → mk_sum B m b N = 1)) → wY_admissible_2 post (nI m) f_bags f_elems f_maxBasis f_maxWord f_state f_cur f_n f_atoms f_pendLen b_pend b_base b_atomLen b_atomWord b_mult b_basis b_cLen b_cBase b_cWord n (nI a) := by
  intro n
  induction n with
  | zero => intro a h1 h2; omega
  | succ n ih =>
    intro a ha hn hx
    have hA8 := hfd.1
    unfold wY_admissible_2
    refine pk_le A a (fun g => ?_) (fun g => ⟨N + 1, ?_⟩) hF.1 rfl
    · refine yt_fits hfd hF hY hm (fun T cl cb cw a1 a2 a3 a4 => ⟨rfl, h1 T cl cb cw a1 a2 a3 ⟨fun b hb hc => hx b (by omega) hc, T, (a3 T).mp (ch_sv_self a1.1)⟩ a4⟩) (fun cl cb cw a1 a2 => ⟨rfl, h0 cl cb cw (fun q => ?_) a2⟩)
      obtain ⟨_, s, hs⟩ := q
      exact a1 s hs
    · refine ya_15 hfd hF hY hM hm g (fun q => ih (a + 1) (by omega) (by omega) (fun b hb hc => ?_)) (fun q => h0 _ _ _ (fun r => q (fun hc => r.1 a g hc)) (yy_hi_rf _ _ _)) (N + 1) 0 (Nat.zero_le _) (by omega)
      by_cases e : b = a
      · rw [e] at hc ⊢; exact q hc
      · exact hx b (by omega) hc
theorem ya_adm (hfd : fd_ok A cd wd) (hF : yf_A A cd wd f_atoms b_base b_atomLen b_atomWord) (hY : so_Y A N B f_n b_basis) (hM : yf_M A lt rt c b_mult) (hm : m < 2 ^ 31) {post : Int32 → SY → Prop}
    (h1 : ∀ T cl cb cw, yg_G T → yy_T T cl cb cw → (∀ s, ch_sv s T ↔ mk_slv A N B cd (fun a => (wd a, cd a)) m s) → mk_adm A N B cd (fun a => (wd a, cd a)) c m → yy_hi b_cLen b_cBase b_cWord cl cb cw → post 1 (f_bags, f_elems, f_maxBasis, f_maxWord, f_state, f_cur, f_n, f_atoms, f_pendLen, b_pend, b_base, b_atomLen, b_atomWord, b_mult, b_basis, cl, cb, cw))
    (h0 : ∀ cl cb cw, ¬ mk_adm A N B cd (fun a => (wd a, cd a)) c m → yy_hi b_cLen b_cBase b_cWord cl cb cw → post 0 (f_bags, f_elems, f_maxBasis, f_maxWord, f_state, f_cur, f_n, f_atoms, f_pendLen, b_pend, b_base, b_atomLen, b_atomWord, b_mult, b_basis, cl, cb, cw)) : wpY_admissible post (f_bags, f_elems, f_maxBasis, f_maxWord, f_state, f_cur, f_n, f_atoms, f_pendLen, b_pend, b_base, b_atomLen, b_atomWord, b_mult, b_basis, b_cLen, b_cBase, b_cWord) (nI m) :=
  ⟨A + 1, ya_2 hfd hF hY hM hm h1 h0 (A + 1) 0 (Nat.zero_le _) (by omega) (fun b hb => absurd hb (Nat.not_lt_zero b))⟩
theorem ya_move_l (hfd : fd_ok A cd wd) (hF : yf_A A cd wd f_atoms b_base b_atomLen b_atomWord) (hY : so_Y A N B f_n b_basis) (hM : yf_M A lt rt c b_mult) {fr : Nat} (hfr : fr < 2 ^ 31) {post : Int32 → SY → Prop}
    (hS : ∀ m cl cb cw, fr ≤ m → m < 2 ^ N → mk_adm A N B cd (fun a => (wd a, cd a)) c m → (∀ m', fr ≤ m' → m' < m → ¬ mk_adm A N B cd (fun a => (wd a, cd a)) c m') → post (nI m) (f_bags, f_elems, f_maxBasis, f_maxWord, 2, nI m, f_n, f_atoms, f_pendLen, b_pend, b_base, b_atomLen, b_atomWord, b_mult, b_basis, cl, cb, cw))
    (hN : ∀ cl cb cw, xs_No A N B cd (fun a => (wd a, cd a)) c fr → post (-6) (f_bags, f_elems, f_maxBasis, f_maxWord, 3, f_cur, f_n, f_atoms, f_pendLen, b_pend, b_base, b_atomLen, b_atomWord, b_mult, b_basis, cl, cb, cw)) :
    ∀ n mm cl cb cw, fr ≤ mm → mm < 2 ^ 31 → 2 ^ N < n + mm → 0 < n → (∀ m', fr ≤ m' → m' < mm → ¬ mk_adm A N B cd (fun a => (wd a, cd a)) c m') → wY_move_2 post n (nI mm) f_bags f_elems f_maxBasis f_maxWord f_state f_cur f_n f_atoms f_pendLen b_pend b_base b_atomLen b_atomWord b_mult b_basis cl cb cw := by
  have hN12 := hY.1
  have hp12 : 2 ^ N ≤ 2 ^ 12 := Nat.pow_le_pow_right (by omega) hN12
  have hsh : (1 : Int32) <<< (f_n &&& 31) = nI (2 ^ N) := by rw [hY.2.1]; exact ib_shl (by omega)
  intro n
  induction n with
  | zero => intro mm cl cb cw h1 h2 h3 h4; omega
  | succ n ih =>
    intro mm cl cb cw h1 h2 h3 _ hno
    unfold wY_move_2
    refine pk_le (2 ^ N) mm (fun g => hN cl cb cw (fun m' q1 q2 => hno m' q1 (by omega))) (fun g => ?_) hsh rfl
    refine ya_adm hfd hF hY hM h2 (fun T cl' cb' cw' _ _ _ a4 _ => br_f (by decide) (hS mm cl' cb' cw' h1 g a4 hno)) (fun cl' cb' cw' a1 _ => br_t rfl (nm_r (nI_1 mm) (ih (mm + 1) cl' cb' cw' (by omega) (by omega) (by omega) (by omega) (fun m' q1 q2 => ?_))))
    by_cases e : m' = mm
    · rw [e]; exact a1
    · exact hno m' q1 (by omega)
theorem ya_move (hfd : fd_ok A cd wd) (hF : yf_A A cd wd f_atoms b_base b_atomLen b_atomWord) (hY : so_Y A N B f_n b_basis) (hM : yf_M A lt rt c b_mult) {fr : Nat} (hfr : fr < 2 ^ 31) {post : Int32 → SY → Prop}
    (hS : ∀ m cl cb cw, fr ≤ m → m < 2 ^ N → mk_adm A N B cd (fun a => (wd a, cd a)) c m → (∀ m', fr ≤ m' → m' < m → ¬ mk_adm A N B cd (fun a => (wd a, cd a)) c m') → post (nI m) (f_bags, f_elems, f_maxBasis, f_maxWord, 2, nI m, f_n, f_atoms, f_pendLen, b_pend, b_base, b_atomLen, b_atomWord, b_mult, b_basis, cl, cb, cw))
    (hN : ∀ cl cb cw, xs_No A N B cd (fun a => (wd a, cd a)) c fr → post (-6) (f_bags, f_elems, f_maxBasis, f_maxWord, 3, f_cur, f_n, f_atoms, f_pendLen, b_pend, b_base, b_atomLen, b_atomWord, b_mult, b_basis, cl, cb, cw)) : wpY_move post (f_bags, f_elems, f_maxBasis, f_maxWord, f_state, f_cur, f_n, f_atoms, f_pendLen, b_pend, b_base, b_atomLen, b_atomWord, b_mult, b_basis, b_cLen, b_cBase, b_cWord) (nI fr) :=
  ⟨2 ^ N + 1, ya_move_l hfd hF hY hM hfr hS hN (2 ^ N + 1) fr _ _ _ (Nat.le_refl _) hfr (by have := Nat.two_pow_pos N; omega) (by have := Nat.two_pow_pos N; omega) (fun m' h1 h2 => by omega)⟩
theorem ya_count_l (hfd : fd_ok A cd wd) (hF : yf_A A cd wd f_atoms b_base b_atomLen b_atomWord) (hY : so_Y A N B f_n b_basis) (hM : yf_M A lt rt c b_mult) {post : Int32 → SY → Prop}
    (h : ∀ cl cb cw, post (nI (mk_cnt A N B cd (fun a => (wd a, cd a)) c (2 ^ N))) (f_bags, f_elems, f_maxBasis, f_maxWord, f_state, f_cur, f_n, f_atoms, f_pendLen, b_pend, b_base, b_atomLen, b_atomWord, b_mult, b_basis, cl, cb, cw)) :
    ∀ n mm cl cb cw, mm ≤ 2 ^ N → 2 ^ N < n + mm → wY_count_13 post n (nI (mk_cnt A N B cd (fun a => (wd a, cd a)) c mm)) (nI mm) f_bags f_elems f_maxBasis f_maxWord f_state f_cur f_n f_atoms f_pendLen b_pend b_base b_atomLen b_atomWord b_mult b_basis cl cb cw := by
  have hN12 := hY.1
  have hp12 : 2 ^ N ≤ 2 ^ 12 := Nat.pow_le_pow_right (by omega) hN12
  have hsh : (1 : Int32) <<< (f_n &&& 31) = nI (2 ^ N) := by rw [hY.2.1]; exact ib_shl (by omega)
  intro n
  induction n with
  | zero => intro mm cl cb cw h1 h2; omega
  | succ n ih =>
    intro mm cl cb cw h1 h2
    unfold wY_count_13
    refine pk_le (2 ^ N) mm (fun g => ?_) (fun g => ?_) hsh rfl
    · have e : mm = 2 ^ N := by omega
      rw [e]; exact h cl cb cw
    · refine ya_adm hfd hF hY hM (show mm < 2 ^ 31 by omega) (fun T cl' cb' cw' _ _ _ a4 _ => br_f (by decide) ?_) (fun cl' cb' cw' a1 _ => br_t rfl (nm_r (nI_1 mm) ?_))
      · rw [nI_1, ← mk_cnt_s a4]
        exact nm_e (nm_r (nI_1 mm) (ih (mm + 1) cl' cb' cw' (by omega) (by omega)))
      · rw [← mk_cnt_n a1]
        exact ih (mm + 1) cl' cb' cw' (by omega) (by omega)
theorem ya_count (hfd : fd_ok A cd wd) (hF : yf_A A cd wd f_atoms b_base b_atomLen b_atomWord) (hY : so_Y A N B f_n b_basis) (hM : yf_M A lt rt c b_mult) (hst : ¬ f_state = 0) {post : Int32 → SY → Prop}
    (h : ∀ cl cb cw, post (nI (mk_cnt A N B cd (fun a => (wd a, cd a)) c (2 ^ N))) (f_bags, f_elems, f_maxBasis, f_maxWord, f_state, f_cur, f_n, f_atoms, f_pendLen, b_pend, b_base, b_atomLen, b_atomWord, b_mult, b_basis, cl, cb, cw)) : wpY_count post (f_bags, f_elems, f_maxBasis, f_maxWord, f_state, f_cur, f_n, f_atoms, f_pendLen, b_pend, b_base, b_atomLen, b_atomWord, b_mult, b_basis, b_cLen, b_cBase, b_cWord) :=
  br_f hst ⟨2 ^ N + 1, ya_count_l hfd hF hY hM h (2 ^ N + 1) 0 _ _ _ (Nat.zero_le _) (by omega)⟩
end YM
end
section
/-! the things by their names, and the reference's way to them -/
def th_n (A N el : Nat) (what i : Int32) (t : Nat) : Prop := (what = 0 ∧ ∃ k, k < N ∧ i = nI k ∧ t = k) ∨ (what = 1 ∧ ∃ v, v < el ∧ i = nI v ∧ t = 12 + v) ∨ (what = 2 ∧ ∃ a, a < A ∧ i = nI a ∧ t = 16 + a)
def th_o (A : Nat) (cd : Nat → Nat) (B : Nat → Nat → Nat) (tm : Nat → ch_C) (c : Nat → Int) (T : Nat → ch_C) (m t : Nat) : Option ch_C := if t < 12 then mk_item A cd B tm T m t else if t < 16 then some (T (t - 12)) else mk_atom cd c tm T (t - 16)
theorem th_o_k {A : Nat} {cd : Nat → Nat} {B : Nat → Nat → Nat} {tm : Nat → ch_C} {c : Nat → Int} {T : Nat → ch_C} {m k : Nat} (h : k < 12) : th_o A cd B tm c T m k = mk_item A cd B tm T m k := if_pos h
theorem th_o_v {A : Nat} {cd : Nat → Nat} {B : Nat → Nat → Nat} {tm : Nat → ch_C} {c : Nat → Int} {T : Nat → ch_C} {m v : Nat} (h : v < 4) : th_o A cd B tm c T m (12 + v) = some (T v) := by
  unfold th_o
  rw [if_neg (by omega), if_pos (by omega), show 12 + v - 12 = v from by omega]
theorem th_o_a {A : Nat} {cd : Nat → Nat} {B : Nat → Nat → Nat} {tm : Nat → ch_C} {c : Nat → Int} {T : Nat → ch_C} {m a : Nat} : th_o A cd B tm c T m (16 + a) = mk_atom cd c tm T a := by
  unfold th_o
  rw [if_neg (by omega), if_neg (by omega), show 16 + a - 16 = a from by omega]
def yh_keep (s : Nat) (cl cb cw cl' cb' cw' : Nat → Int32) : Prop := (∀ j, 6 ≤ j → j ≠ s → cl' j = cl j ∧ cb' j = cb j) ∧ ∀ x, 384 ≤ x → (x < s * 64 ∨ s * 64 + 64 ≤ x) → cw' x = cw x
theorem yh_S {s j : Nat} {cl cb cw cl' cb' cw' : Nat → Int32} (h : yh_keep s cl cb cw cl' cb' cw') (h6 : 6 ≤ j) (hj : j ≠ s) {t : ch_C} (hs : yy_S cl cb cw j t) : yy_S cl' cb' cw' j t := by
  obtain ⟨s1, s2, s3, s4⟩ := hs
  obtain ⟨k1, k2⟩ := h.1 j h6 hj
  refine ⟨k1.trans s1, k2.trans s2, s3, fun p hp => ?_⟩
  rw [h.2 (j * 64 + p) (by omega) (by omega)]
  exact s4 p hp
theorem yh_hk {s : Nat} {cl cb cw cl' cb' cw' cl2 cb2 cw2 : Nat → Int32} (h : yy_hi cl cb cw cl' cb' cw') (h2 : yy_keep s cl' cb' cw' cl2 cb2 cw2) : yh_keep s cl cb cw cl2 cb2 cw2 :=
  ⟨fun j hj hjs => ⟨(h2.1 j hjs).1.trans (h.1 j hj).1, (h2.1 j hjs).2.trans (h.1 j hj).2⟩, fun x hx hxs => (h2.2 x hxs).trans (h.2 x hx)⟩
theorem yh_kk {s : Nat} {cl cb cw cl' cb' cw' cl2 cb2 cw2 : Nat → Int32} (h : yh_keep s cl cb cw cl' cb' cw') (h2 : yy_keep s cl' cb' cw' cl2 cb2 cw2) : yh_keep s cl cb cw cl2 cb2 cw2 :=
  ⟨fun j hj hjs => ⟨(h2.1 j hjs).1.trans (h.1 j hj hjs).1, (h2.1 j hjs).2.trans (h.1 j hj hjs).2⟩, fun x hx hxs => (h2.2 x hxs).trans (h.2 x hx hxs)⟩
theorem ch_v_congr {S T : Nat → ch_C} (h : ∀ v, v < 4 → S v = T v) (t : ch_C) : ch_v S t = ch_v T t := by
  obtain ⟨w, b⟩ := t
  by_cases hb : b < 4
  · rw [ch_v_lt hb, ch_v_lt hb, h b hb]
  · rw [ch_v_ge hb, ch_v_ge hb]
section YH
variable {f_bags f_elems f_maxBasis f_maxWord f_state f_cur f_n f_atoms f_pendLen : Int32} {b_pend b_base b_atomLen b_atomWord b_mult b_basis b_cLen b_cBase b_cWord : Nat → Int32}
variable {A N el : Nat} {cd lt rt : Nat → Nat} {wd : Nat → List Nat} {B : Nat → Nat → Nat} {c : Nat → Int} {m : Nat} {T : Nat → ch_C}
/-- what the reference holds while it stands at a mask -/
def yh_E (A N el : Nat) (cd lt rt : Nat → Nat) (wd : Nat → List Nat) (B : Nat → Nat → Nat) (c : Nat → Int) (m : Nat) (T : Nat → ch_C) (fe fcur fn fa : Int32) (ba al aw mu bas : Nat → Int32) : Prop :=
  fd_ok A cd wd ∧ yf_A A cd wd fa ba al aw ∧ so_Y A N B fn bas ∧ yf_M A lt rt c mu ∧ fe = nI el ∧ el ≤ 4 ∧ fcur = nI m ∧ m < 2 ^ N ∧ mk_adm A N B cd (fun a => (wd a, cd a)) c m ∧ ch_nf T ∧ ∀ s, ch_sv s T ↔ mk_slv A N B cd (fun a => (wd a, cd a)) m s
theorem yh_fits (E : yh_E A N el cd lt rt wd B c m T f_elems f_cur f_n f_atoms b_base b_atomLen b_atomWord b_mult b_basis) {post : Int32 → SY → Prop}
    (h : ∀ r cl cb cw, yg_G T → yy_T T cl cb cw → yy_hi b_cLen b_cBase b_cWord cl cb cw → post r (f_bags, f_elems, f_maxBasis, f_maxWord, f_state, f_cur, f_n, f_atoms, f_pendLen, b_pend, b_base, b_atomLen, b_atomWord, b_mult, b_basis, cl, cb, cw)) : wpY_fits post (f_bags, f_elems, f_maxBasis, f_maxWord, f_state, f_cur, f_n, f_atoms, f_pendLen, b_pend, b_base, b_atomLen, b_atomWord, b_mult, b_basis, b_cLen, b_cBase, b_cWord) f_cur := by
  obtain ⟨e1, e2, e3, e4, e5, e6, e7, e8, e9, e10, e11⟩ := E
  have hp12 : 2 ^ N ≤ 2 ^ 12 := Nat.pow_le_pow_right (by omega) e3.1
  subst e7
  refine yt_fits e1 e2 e3 (show m < 2 ^ 31 by omega) (fun T' cl cb cw G hT hs hhi => ?_) (fun cl cb cw hn _ => ?_)
  · have hu : ∀ v, v < 4 → T' v = T v := ch_uniq G.1 e10 ((e11 T').mpr ((hs T').mp (ch_sv_self G.1))) ((hs T).mpr ((e11 T).mp (ch_sv_self e10)))
    have hT2 : yy_T T cl cb cw := fun v hv => by rw [← hu v hv]; exact hT v hv
    have hfr : yg_fr T' = yg_fr T := ac_cn_congr 4 (fun i hi => by show decide _ = decide _; rw [hu i hi])
    refine h 1 cl cb cw ⟨e10, fun v hv => by rw [← hu v hv]; exact G.2.1 v hv, fun v hv => by rw [← hu v hv, ← hfr]; exact G.2.2 v hv⟩ hT2 hhi
  · obtain ⟨_, s, hs⟩ := e9
    exact absurd hs (hn s)
theorem yh_163 (E : yh_E A N el cd lt rt wd B c m T f_elems f_cur f_n f_atoms b_base b_atomLen b_atomWord b_mult b_basis) (G : yg_G T) {k s : Nat} (hk : k < N) (hs6 : 6 ≤ s) (hs8 : s < 8) {cl0 cb0 cw0 : Nat → Int32} {post : Int32 → SY → Prop}
    (h : ∀ cl cb cw, yy_S cl cb cw s (mk_it cd B (fun a => (wd a, cd a)) T k A) → yh_keep s cl0 cb0 cw0 cl cb cw → post 0 (f_bags, f_elems, f_maxBasis, f_maxWord, f_state, f_cur, f_n, f_atoms, f_pendLen, b_pend, b_base, b_atomLen, b_atomWord, b_mult, b_basis, cl, cb, cw)) :
    ∀ n a cl cb cw, a ≤ A → A < n + a → yy_T T cl cb cw → yy_S cl cb cw s (mk_it cd B (fun a => (wd a, cd a)) T k a) → yh_keep s cl0 cb0 cw0 cl cb cw → wY_thing_163 post (nI k) (nI s) n (nI a) f_bags f_elems f_maxBasis f_maxWord f_state f_cur f_n f_atoms f_pendLen b_pend b_base b_atomLen b_atomWord b_mult b_basis cl cb cw := by
  obtain ⟨e1, e2, e3, e4, e5, e6, e7, e8, e9, e10, e11⟩ := E
  have hA8 := e1.1
  have hN := e3.1
  have h48 := yg_48 T
  intro n
  induction n with
  | zero => intro a cl cb cw h1 h2; omega
  | succ n ih =>
    intro a cl cb cw ha hn hT hS hK
    unfold wY_thing_163
    refine pk_le A a (fun g => ?_) (fun g => ⟨vp_in_nI (by omega) (by omega), ?_⟩) e2.1 rfl
    · have : a = A := by omega
      subst this
      exact h cl cb cw hS hK
    · obtain ⟨p1, p2, p3, p4, p5⟩ := e1.2.1 a g
      have hit : mk_it cd B (fun a => (wd a, cd a)) T k (a + 1) = if cd a < 20 ∧ B k a = 1 then ch_v T (wd a, cd a) else mk_it cd B (fun a => (wd a, cd a)) T k a := rfl
      rw [nI_clamp (show a < 2 ^ 31 by omega), nI_clamp (show k < 2 ^ 31 by omega), (e2.2 a g).1]
      have skip : ¬ (cd a < 20 ∧ B k a = 1) → wY_thing_163 post (nI k) (nI s) n (nI (a + 1)) f_bags f_elems f_maxBasis f_maxWord f_state f_cur f_n f_atoms f_pendLen b_pend b_base b_atomLen b_atomWord b_mult b_basis cl cb cw := by
        intro hno
        rw [if_neg hno] at hit
        exact ih (a + 1) cl cb cw (by omega) (by omega) hT (by rw [hit]; exact hS) hK
      refine pk_le 20 (cd a) (fun g2 => nm_r (nI_1 a) (skip (fun q => by omega))) (fun g2 => ⟨vp_in_nI (by omega) (by omega), yb_basis hA8 e2.1 e3 hk g ?_⟩)
      have hB3 := yb_B3 e3 hk g
      refine pk_eq (B k a) 1 (fun g3 => ?_) (fun g3 => nm_r (nI_1 a) (skip (fun q => g3 q.2)))
      rw [if_pos ⟨g2, g3⟩] at hit
      have him := (yg_img G p5 p4 (p2 g2)).1
      refine yy_image (s := s) e1 e2 g (by omega) hs8 hT (by omega) (fun cl' cb' cw' k' s' => nm_r (nI_1 a) (ih (a + 1) cl' cb' cw' (by omega) (by omega) (fun v hv => yy_keep_S k' (by omega) (hT v hv)) (by rw [hit]; exact s') (yh_kk hK k')))
theorem yh_71 (E : yh_E A N el cd lt rt wd B c m T f_elems f_cur f_n f_atoms b_base b_atomLen b_atomWord b_mult b_basis) {s : Nat} (hs6 : 6 ≤ s) (hs8 : s < 8) {what i : Int32} {t : Nat} (ht : th_n A N el what i t) {post : Int32 → SY → Prop}
    (hn : ∀ cl cb cw, th_o A cd B (fun a => (wd a, cd a)) c T m t = none → yh_keep s b_cLen b_cBase b_cWord cl cb cw → post (-6) (f_bags, f_elems, f_maxBasis, f_maxWord, f_state, f_cur, f_n, f_atoms, f_pendLen, b_pend, b_base, b_atomLen, b_atomWord, b_mult, b_basis, cl, cb, cw))
    (hS : ∀ q cl cb cw, th_o A cd B (fun a => (wd a, cd a)) c T m t = some q → yy_S cl cb cw s q → yh_keep s b_cLen b_cBase b_cWord cl cb cw → post 0 (f_bags, f_elems, f_maxBasis, f_maxWord, f_state, f_cur, f_n, f_atoms, f_pendLen, b_pend, b_base, b_atomLen, b_atomWord, b_mult, b_basis, cl, cb, cw)) : wY_thing_71 post what i (nI s) f_bags f_elems f_maxBasis f_maxWord f_state f_cur f_n f_atoms f_pendLen b_pend b_base b_atomLen b_atomWord b_mult b_basis b_cLen b_cBase b_cWord := by
  have E' := E
  obtain ⟨e1, e2, e3, e4, e5, e6, e7, e8, e9, e10, e11⟩ := E'
  have hA8 := e1.1
  have hN := e3.1
  have hp12 : 2 ^ N ≤ 2 ^ 12 := Nat.pow_le_pow_right (by omega) e3.1
  have h48 := yg_48 T
  have is : vp_in (nI s) 8 := vp_in_nI hs8 (by omega)
  have cs : (nI s).toNatClampNeg = s := nI_clamp (by omega)
  unfold wY_thing_71
  refine yh_fits E (fun r cl cb cw G hT hhi => ⟨is, nm_r (e' := upd cl s 0) (by rw [cs]) ?_⟩)
  have keep : yy_keep s cl cb cw (upd cl s 0) cb cw := ⟨fun j hj => ⟨pk_un hj, rfl⟩, fun _ _ => rfl⟩
  have hT1 : yy_T T (upd cl s 0) cb cw := fun v hv => yy_keep_S keep (by omega) (hT v hv)
  have hK1 := yh_hk hhi keep
  rcases ht with ⟨hw, k, hk, hi, htk⟩ | ⟨hw, v, hv, hi, htk⟩ | ⟨hw, a, ha, hi, htk⟩
  · subst hw hi htk
    refine br_f (by decide) (br_f (by decide) ?_)
    rw [th_o_k (show t < 12 by omega)] at hn hS
    cases hb : m.testBit t with
    | false =>
      refine br_t (by rw [e7]; exact (ib_bit0 (by omega) (by omega)).mpr hb) (hn _ _ _ ?_ hK1)
      unfold mk_item
      rw [hb, if_neg Bool.false_ne_true]
    | true =>
      refine br_f (fun q => ?_) ⟨is, nm_r (e' := upd cb s (nI (8 + t))) (by rw [cs, show (8 : Int32) + nI t = nI (8 + t) from nI_add 8 t]) ⟨A + 1, ?_⟩⟩
      · rw [e7, ib_bit0 (by omega) (by omega), hb] at q
        exact absurd q (by decide)
      have keep2 : yy_keep s (upd cl s 0) cb cw (upd cl s 0) (upd cb s (nI (8 + t))) cw := ⟨fun j hj => ⟨rfl, pk_un hj⟩, fun _ _ => rfl⟩
      refine yh_163 E G hk hs6 hs8 (fun cl' cb' cw' s' k' => hS _ cl' cb' cw' ?_ s' k') (A + 1) 0 _ _ _ (Nat.zero_le _) (by omega) (fun v hv => yy_keep_S keep2 (by omega) (hT1 v hv)) ⟨pk_us, pk_us, Nat.zero_le _, fun p hp => absurd hp (Nat.not_lt_zero p)⟩ (yh_kk hK1 keep2)
      unfold mk_item
      rw [hb, if_pos rfl]
  · subst hw hi htk
    refine br_t rfl ?_
    rw [th_o_v (show v < 4 by omega)] at hn hS
    refine yy_append (fm := v) (to := s) (start := 0) (w := (T v).1) (u := []) (b := (T v).2) (by omega) hs8 (by omega) (hT1 v (by omega)) pk_us (fun p hp => absurd hp (Nat.not_lt_zero p)) (Nat.zero_le _) (by have := (hT1 v (by omega)).2.2.1; show 0 + ((T v).1.length - 0) ≤ 64; omega) (fun cl' cb' cw' k' s' => hS (T v) cl' cb' cw' rfl s' (yh_kk hK1 k'))
  · subst hw hi htk
    refine br_f (by decide) (br_t rfl ?_)
    rw [th_o_a] at hn hS
    obtain ⟨p1, p2, p3, p4, p5⟩ := e1.2.1 a ha
    have him : (ch_v T (wd a, cd a)).1.length ≤ 64 := by
      by_cases h20 : cd a < 20
      · have := (yg_img G p5 p4 (p2 h20)).1; omega
      · rw [ch_v_ge (by omega)]; show (wd a).length ≤ 64; omega
    have img : mk_atom cd c (fun a => (wd a, cd a)) T a = some (ch_v T (wd a, cd a)) → wY_thing_128 post (nI a) (nI s) f_bags f_elems f_maxBasis f_maxWord f_state f_cur f_n f_atoms f_pendLen b_pend b_base b_atomLen b_atomWord b_mult b_basis (upd cl s 0) cb cw := by
      intro hat
      unfold wY_thing_128
      exact yy_image (s := s) e1 e2 ha (by omega) hs8 hT1 him (fun cl' cb' cw' k' s' => hS _ cl' cb' cw' hat s' (yh_kk hK1 k'))
    rw [nI_clamp (show a < 2 ^ 31 by omega), (e2.2 a ha).1]
    refine ⟨vp_in_nI (by omega) (by omega), ?_⟩
    refine pk_lt (cd a) 20 (fun g => img ?_) (fun g => ym_coef hA8 e4 ha ?_)
    · unfold mk_atom
      rw [if_neg (fun q => by omega)]
    · by_cases hz : c a = 0
      · refine br_t ((ym_cz e4 ha).mpr hz) (img ?_)
        unfold mk_atom
        rw [if_neg (fun q => q.2 hz)]
      · refine br_f (fun q => hz ((ym_cz e4 ha).mp q)) (hn _ _ _ ?_ hK1)
        unfold mk_atom
        rw [if_pos ⟨g, hz⟩]
theorem yh_thing (E : yh_E A N el cd lt rt wd B c m T f_elems f_cur f_n f_atoms b_base b_atomLen b_atomWord b_mult b_basis) {s : Nat} (hs6 : 6 ≤ s) (hs8 : s < 8) {what i : Int32} {post : Int32 → SY → Prop}
    (hb : (∀ t, ¬ th_n A N el what i t) → post (-2) (f_bags, f_elems, f_maxBasis, f_maxWord, f_state, f_cur, f_n, f_atoms, f_pendLen, b_pend, b_base, b_atomLen, b_atomWord, b_mult, b_basis, b_cLen, b_cBase, b_cWord))
    (hn : ∀ t cl cb cw, th_n A N el what i t → th_o A cd B (fun a => (wd a, cd a)) c T m t = none → yh_keep s b_cLen b_cBase b_cWord cl cb cw → post (-6) (f_bags, f_elems, f_maxBasis, f_maxWord, f_state, f_cur, f_n, f_atoms, f_pendLen, b_pend, b_base, b_atomLen, b_atomWord, b_mult, b_basis, cl, cb, cw))
    (hS : ∀ t q cl cb cw, th_n A N el what i t → th_o A cd B (fun a => (wd a, cd a)) c T m t = some q → yy_S cl cb cw s q → yh_keep s b_cLen b_cBase b_cWord cl cb cw → post 0 (f_bags, f_elems, f_maxBasis, f_maxWord, f_state, f_cur, f_n, f_atoms, f_pendLen, b_pend, b_base, b_atomLen, b_atomWord, b_mult, b_basis, cl, cb, cw)) : wpY_thing post (f_bags, f_elems, f_maxBasis, f_maxWord, f_state, f_cur, f_n, f_atoms, f_pendLen, b_pend, b_base, b_atomLen, b_atomWord, b_mult, b_basis, b_cLen, b_cBase, b_cWord) what i (nI s) := by
  have E' := E
  obtain ⟨e1, e2, e3, e4, e5, e6, e7, e8, e9, e10, e11⟩ := E'
  have hA8 := e1.1
  have hN := e3.1
  have go : ∀ t, th_n A N el what i t → wY_thing_71 post what i (nI s) f_bags f_elems f_maxBasis f_maxWord f_state f_cur f_n f_atoms f_pendLen b_pend b_base b_atomLen b_atomWord b_mult b_basis b_cLen b_cBase b_cWord := fun t ht => yh_71 E hs6 hs8 ht (fun cl cb cw => hn t cl cb cw ht) (fun q cl cb cw => hS t q cl cb cw ht)
  have neg : ¬ 0 ≤ i → ∀ t, ¬ th_n A N el what i t := by
    intro h t ht
    rcases ht with ⟨_, k, hk, hi, _⟩ | ⟨_, k, hk, hi, _⟩ | ⟨_, k, hk, hi, _⟩
    · rw [hi] at h; exact h (nI_pos' (by omega))
    · rw [hi] at h; exact h (nI_pos' (by omega))
    · rw [hi] at h; exact h (nI_pos' (by omega))
  have inj : ∀ {a b : Nat}, a < 2 ^ 31 → b < 2 ^ 31 → nI a = nI b → a = b := fun ha hb e => (nI_eq ha hb).mp e
  by_cases w0 : what = 0
  · refine br_t w0 (br_c (fun h0 => br_t w0 ?_) (fun h0 => hb (neg h0)))
    obtain ⟨j, hj, rfl⟩ := nI_of (Int32.not_lt.mpr h0)
    refine pk_lt j N (fun g => br_f (by rw [w0]; decide) (br_f (by rw [w0]; decide) (go j (Or.inl ⟨w0, j, g, rfl, rfl⟩)))) (fun g => hb (fun t ht => ?_)) rfl e3.2.1
    rcases ht with ⟨_, k, hk, hi, _⟩ | ⟨hw, _⟩ | ⟨hw, _⟩
    · have := inj hj (show k < 2 ^ 31 by omega) hi; omega
    · rw [w0] at hw; exact absurd hw (by decide)
    · rw [w0] at hw; exact absurd hw (by decide)
  · refine br_f w0 ?_
    by_cases w1 : what = 1
    · refine br_t w1 (br_c (fun h0 => br_f w0 ?_) (fun h0 => hb (neg h0)))
      obtain ⟨j, hj, rfl⟩ := nI_of (Int32.not_lt.mpr h0)
      refine br_t w1 (pk_lt j el (fun g => br_f (by rw [w1]; decide) (go (12 + j) (Or.inr (Or.inl ⟨w1, j, g, rfl, rfl⟩)))) (fun g => hb (fun t ht => ?_)) rfl e5)
      rcases ht with ⟨hw, _⟩ | ⟨_, k, hk, hi, _⟩ | ⟨hw, _⟩
      · exact w0 hw
      · have := inj hj (show k < 2 ^ 31 by omega) hi; omega
      · rw [w1] at hw; exact absurd hw (by decide)
    · refine br_f w1 ?_
      by_cases w2 : what = 2
      · refine br_t w2 (br_c (fun h0 => br_f w0 ?_) (fun h0 => hb (neg h0)))
        obtain ⟨j, hj, rfl⟩ := nI_of (Int32.not_lt.mpr h0)
        refine br_f w1 (br_t w2 (pk_lt j A (fun g => go (16 + j) (Or.inr (Or.inr ⟨w2, j, g, rfl, rfl⟩))) (fun g => hb (fun t ht => ?_)) rfl e2.1))
        rcases ht with ⟨hw, _⟩ | ⟨hw, _⟩ | ⟨_, k, hk, hi, _⟩
        · exact w0 hw
        · exact w1 hw
        · have := inj hj (show k < 2 ^ 31 by omega) hi; omega
      · refine br_f w2 (hb (fun t ht => ?_))
        rcases ht with ⟨hw, _⟩ | ⟨hw, _⟩ | ⟨hw, _⟩
        · exact w0 hw
        · exact w1 hw
        · exact w2 hw
end YH
end
section
/-! how often a thing occurs on a side -/
def oc_k (it : Nat → Option ch_C) (q : ch_C) (B : Nat → Nat → Nat) (a : Nat) : Nat → Nat
  | 0 => 0
  | k + 1 => oc_k it q B a k + (if it k = some q then B k a else 0)
def oc_t (t f : Nat → Nat) : Nat → Nat
  | 0 => 0
  | a + 1 => oc_t t f a + t a * f a
def oc_a (N : Nat) (cd : Nat → Nat) (c : Nat → Int) (it at' : Nat → Option ch_C) (q : ch_C) (B : Nat → Nat → Nat) (a : Nat) : Nat := if 20 ≤ cd a ∧ c a ≠ 0 then oc_k it q B a N else if at' a = some q then 1 else 0
theorem oc_k_le {it : Nat → Option ch_C} {q : ch_C} {B : Nat → Nat → Nat} {a : Nat} : ∀ n, (∀ k, k < n → B k a ≤ 3) → oc_k it q B a n ≤ 3 * n := by
  intro n
  induction n with
  | zero => intro _; exact Nat.le_refl _
  | succ n ih =>
    intro h
    have h1 := ih (fun k hk => h k (by omega))
    have h2 := h n (by omega)
    show oc_k it q B a n + (if it n = some q then B n a else 0) ≤ 3 * (n + 1)
    split <;> omega
section YO
variable {f_bags f_elems f_maxBasis f_maxWord f_state f_cur f_n f_atoms f_pendLen : Int32} {b_pend b_base b_atomLen b_atomWord b_mult b_basis b_cLen b_cBase b_cWord : Nat → Int32}
variable {A N el : Nat} {cd lt rt : Nat → Nat} {wd : Nat → List Nat} {B : Nat → Nat → Nat} {c : Nat → Int} {m : Nat} {T : Nat → ch_C}
def th_ok (A N el : Nat) (cd : Nat → Nat) (wd : Nat → List Nat) (B : Nat → Nat → Nat) (c : Nat → Int) (T : Nat → ch_C) (m : Nat) : Prop := ∀ what i t q, th_n A N el what i t → th_o A cd B (fun a => (wd a, cd a)) c T m t = some q → q.1.length ≤ 24 ∧ wd_ok q.1 ∧ q.2 < 25
theorem yq_52 {q6 q7 : ch_C} (h6 : yy_S b_cLen b_cBase b_cWord 6 q6) (h7 : yy_S b_cLen b_cBase b_cWord 7 q7) (k6 : q6.1.length ≤ 24 ∧ wd_ok q6.1) (k7 : q7.1.length ≤ 24 ∧ wd_ok q7.1) (hl : q6.1.length = q7.1.length) (hb : q6.2 = q7.2) {post : Int32 → SY → Prop} (h1 : q7 = q6 → post 1 (f_bags, f_elems, f_maxBasis, f_maxWord, f_state, f_cur, f_n, f_atoms, f_pendLen, b_pend, b_base, b_atomLen, b_atomWord, b_mult, b_basis, b_cLen, b_cBase, b_cWord)) (h0 : ¬ q7 = q6 → post 0 (f_bags, f_elems, f_maxBasis, f_maxWord, f_state, f_cur, f_n, f_atoms, f_pendLen, b_pend, b_base, b_atomLen, b_atomWord, b_mult, b_basis, b_cLen, b_cBase, b_cWord)) :
    ∀ n p, p ≤ q6.1.length → q6.1.length < n + p → (∀ j, j < p → q6.1.getD j 0 = q7.1.getD j 0) → wY_equalsSlot6_52 post f_bags f_elems f_maxBasis f_maxWord f_state f_cur f_n f_atoms f_pendLen b_pend b_base b_atomLen b_atomWord b_mult b_basis b_cLen b_cBase b_cWord n (nI p) := by
  intro n
  induction n with
  | zero => intro p h1 h2; omega
  | succ n ih =>
    intro p hp hn he
    unfold wY_equalsSlot6_52
    rw [h6.1]
    refine pk_le q6.1.length p (fun g => h1 (Prod.ext (List.ext_getElem? (fun i => ?_)) hb.symm)) (fun g => pk_le 64 p (fun g2 => absurd g2 (by omega)) (fun _ => ?_))
    · by_cases hi : i < q6.1.length
      · have := he i (by omega)
        rw [List.getD_eq_getElem?_getD, List.getD_eq_getElem?_getD, List.getElem?_eq_getElem hi, List.getElem?_eq_getElem (show i < q7.1.length by omega)] at this
        rw [List.getElem?_eq_getElem hi, List.getElem?_eq_getElem (show i < q7.1.length by omega)]
        exact congrArg some this.symm
      · rw [List.getElem?_eq_none (by omega), List.getElem?_eq_none (by omega)]
    · have e6 : 384 + nI p = nI (384 + p) := nI_add 384 p
      have e7 : 448 + nI p = nI (448 + p) := nI_add 448 p
      have w6 : b_cWord (384 + p) = nI (q6.1.getD p 0) := h6.2.2.2 p g
      have w7 : b_cWord (448 + p) = nI (q7.1.getD p 0) := h7.2.2.2 p (by omega)
      have s6 : q6.1.getD p 0 < 4 := by
        rw [List.getD_eq_getElem?_getD, List.getElem?_eq_getElem g]
        exact (k6.2 _ (List.getElem_mem g)).2
      have g7 : p < q7.1.length := by omega
      have s7 : q7.1.getD p 0 < 4 := by
        rw [List.getD_eq_getElem?_getD, List.getElem?_eq_getElem g7]
        exact (k7.2 _ (List.getElem_mem g7)).2
      rw [e6, e7, nI_clamp (show 384 + p < 2 ^ 31 by omega), nI_clamp (show 448 + p < 2 ^ 31 by omega), w6, w7]
      refine ⟨vp_in_nI (by omega) (by omega), vp_in_nI (by omega) (by omega), ?_⟩
      refine pk_eq (q6.1.getD p 0) (q7.1.getD p 0) (fun e => nm_r (nI_1 p) (ih (p + 1) (by omega) (by omega) (fun j hj => ?_))) (fun e => h0 (fun z => e (by rw [z])))
      by_cases ej : j = p
      · rw [ej]; exact e
      · exact he j (by omega)
theorem yq_eq (E : yh_E A N el cd lt rt wd B c m T f_elems f_cur f_n f_atoms b_base b_atomLen b_atomWord b_mult b_basis) (hok : th_ok A N el cd wd B c T m) {q6 : ch_C} (h6 : yy_S b_cLen b_cBase b_cWord 6 q6) (k6 : q6.1.length ≤ 24 ∧ wd_ok q6.1 ∧ q6.2 < 25) {what i : Int32} {t : Nat} (ht : th_n A N el what i t) {post : Int32 → SY → Prop}
    (h1 : th_o A cd B (fun a => (wd a, cd a)) c T m t = some q6 → ∀ cl cb cw, yy_S cl cb cw 6 q6 → post 1 (f_bags, f_elems, f_maxBasis, f_maxWord, f_state, f_cur, f_n, f_atoms, f_pendLen, b_pend, b_base, b_atomLen, b_atomWord, b_mult, b_basis, cl, cb, cw))
    (h0 : ¬ th_o A cd B (fun a => (wd a, cd a)) c T m t = some q6 → ∀ cl cb cw, yy_S cl cb cw 6 q6 → post 0 (f_bags, f_elems, f_maxBasis, f_maxWord, f_state, f_cur, f_n, f_atoms, f_pendLen, b_pend, b_base, b_atomLen, b_atomWord, b_mult, b_basis, cl, cb, cw)) : wpY_equalsSlot6 post (f_bags, f_elems, f_maxBasis, f_maxWord, f_state, f_cur, f_n, f_atoms, f_pendLen, b_pend, b_base, b_atomLen, b_atomWord, b_mult, b_basis, b_cLen, b_cBase, b_cWord) what i := by
  have uniq : ∀ t', th_n A N el what i t' → t' = t := by
    obtain ⟨e1, e2, e3, e4, e5, e6, _⟩ := E
    have hA8 := e1.1
    have hN := e3.1
    intro t' ht'
    rcases ht with ⟨w, k, hk, hi, e⟩ | ⟨w, k, hk, hi, e⟩ | ⟨w, k, hk, hi, e⟩ <;> rcases ht' with ⟨w', k', hk', hi', e'⟩ | ⟨w', k', hk', hi', e'⟩ | ⟨w', k', hk', hi', e'⟩
    · have := (nI_eq (show k < 2 ^ 31 by omega) (show k' < 2 ^ 31 by omega)).mp (hi.symm.trans hi'); omega
    · rw [w] at w'; exact absurd w' (by decide)
    · rw [w] at w'; exact absurd w' (by decide)
    · rw [w] at w'; exact absurd w' (by decide)
    · have := (nI_eq (show k < 2 ^ 31 by omega) (show k' < 2 ^ 31 by omega)).mp (hi.symm.trans hi'); omega
    · rw [w] at w'; exact absurd w' (by decide)
    · rw [w] at w'; exact absurd w' (by decide)
    · rw [w] at w'; exact absurd w' (by decide)
    · have := (nI_eq (show k < 2 ^ 31 by omega) (show k' < 2 ^ 31 by omega)).mp (hi.symm.trans hi'); omega
  unfold wpY_equalsSlot6
  refine yh_thing (s := 7) E (by omega) (by omega) (fun hb => absurd ht (hb t)) (fun t' cl cb cw ht' ho hk => ?_) (fun t' q cl cb cw ht' ho hs hk => ?_)
  · rw [uniq t' ht'] at ho
    exact br_f (by decide) (h0 (by rw [ho]; exact fun z => nomatch z) cl cb cw (yh_S hk (by omega) (by omega) h6))
  · rw [uniq t' ht'] at ho
    have s6 := yh_S hk (by omega) (by omega) h6
    obtain ⟨k7a, k7b, k7c⟩ := hok what i t q ht ho
    have eqv : (th_o A cd B (fun a => (wd a, cd a)) c T m t = some q6) ↔ q = q6 := by
      rw [ho]
      exact ⟨fun z => Option.some.inj z, fun z => by rw [z]⟩
    refine br_t rfl ?_
    rw [s6.1, hs.1, s6.2.1, hs.2.1]
    refine pk_eq q6.1.length q.1.length (fun g => pk_eq q6.2 q.2 (fun g2 => ⟨q6.1.length + 1, ?_⟩) (fun g2 => ?_)) (fun g => ?_)
    · exact yq_52 s6 hs ⟨k6.1, k6.2.1⟩ ⟨k7a, k7b⟩ g g2 (fun z => h1 (eqv.mpr z) cl cb cw s6) (fun z => h0 (fun r => z (eqv.mp r)) cl cb cw s6) _ 0 (Nat.zero_le _) (by omega) (fun j hj => absurd hj (Nat.not_lt_zero j))
    · exact h0 (fun r => g2 (by rw [eqv.mp r])) cl cb cw s6
    · exact h0 (fun r => g (by rw [eqv.mp r])) cl cb cw s6
theorem yo_93 (E : yh_E A N el cd lt rt wd B c m T f_elems f_cur f_n f_atoms b_base b_atomLen b_atomWord b_mult b_basis) (hok : th_ok A N el cd wd B c T m) {q6 : ch_C} (k6 : q6.1.length ≤ 24 ∧ wd_ok q6.1 ∧ q6.2 < 25) {a t0 tt : Nat} (ha : a < A) {x1 : Int32} {post : Int32 → SY → Prop} {J : Int32 → Int32 → Int32 → Int32 → Int32 → Int32 → Int32 → Int32 → Int32 → Int32 → Int32 → (Nat → Int32) → (Nat → Int32) → (Nat → Int32) → (Nat → Int32) → (Nat → Int32) → (Nat → Int32) → (Nat → Int32) → (Nat → Int32) → (Nat → Int32) → Prop}
    (hJ : ∀ cl cb cw, yy_S cl cb cw 6 q6 → J (nI (t0 + tt * oc_k (mk_item A cd B (fun a => (wd a, cd a)) T m) q6 B a N)) (nI (a + 1)) f_bags f_elems f_maxBasis f_maxWord f_state f_cur f_n f_atoms f_pendLen b_pend b_base b_atomLen b_atomWord b_mult b_basis cl cb cw) :
    ∀ n k cl cb cw, k ≤ N → N < n + k → yy_S cl cb cw 6 q6 → wY_occurrences_93 post J x1 (nI a) (nI tt) n (nI (t0 + tt * oc_k (mk_item A cd B (fun a => (wd a, cd a)) T m) q6 B a k)) (nI k) f_bags f_elems f_maxBasis f_maxWord f_state f_cur f_n f_atoms f_pendLen b_pend b_base b_atomLen b_atomWord b_mult b_basis cl cb cw := by
  have E' := E
  obtain ⟨e1, e2, e3, e4, e5, e6, _⟩ := E'
  have hA8 := e1.1
  have hN := e3.1
  intro n
  induction n with
  | zero => intro k cl cb cw h1 h2; omega
  | succ n ih =>
    intro k cl cb cw hk hn h6
    unfold wY_occurrences_93
    refine pk_le N k (fun g => ?_) (fun g => ?_) e3.2.1 rfl
    · have : k = N := by omega
      subst this
      exact nm_r (nI_1 a) (hJ cl cb cw h6)
    · have hs : oc_k (mk_item A cd B (fun a => (wd a, cd a)) T m) q6 B a (k + 1) = oc_k (mk_item A cd B (fun a => (wd a, cd a)) T m) q6 B a k + (if mk_item A cd B (fun a => (wd a, cd a)) T m k = some q6 then B k a else 0) := rfl
      refine yq_eq E hok h6 k6 (t := k) (Or.inl ⟨rfl, k, g, rfl, rfl⟩) (fun ho cl' cb' cw' s6 => br_f (by decide) ?_) (fun ho cl' cb' cw' s6 => br_t rfl (nm_r (nI_1 k) ?_))
      · rw [th_o_k (show k < 12 by omega)] at ho
        rw [if_pos ho] at hs
        rw [nI_clamp (show k < 2 ^ 31 by omega)]
        refine ⟨vp_in_nI (by omega) (by omega), yb_basis hA8 e2.1 e3 g ha ?_⟩
        rw [pk_mul, nI_add]
        have e : t0 + tt * oc_k (mk_item A cd B (fun a => (wd a, cd a)) T m) q6 B a k + tt * B k a = t0 + tt * oc_k (mk_item A cd B (fun a => (wd a, cd a)) T m) q6 B a (k + 1) := by
          rw [hs, Nat.mul_add, Nat.add_assoc]
        rw [e]
        exact nm_e (nm_r (nI_1 k) (ih (k + 1) cl' cb' cw' (by omega) (by omega) s6))
      · rw [th_o_k (show k < 12 by omega)] at ho
        rw [if_neg ho] at hs
        have hs2 : oc_k (mk_item A cd B (fun a => (wd a, cd a)) T m) q6 B a (k + 1) = oc_k (mk_item A cd B (fun a => (wd a, cd a)) T m) q6 B a k := hs
        rw [← hs2]
        exact ih (k + 1) cl' cb' cw' (by omega) (by omega) s6
theorem yo_46 (E : yh_E A N el cd lt rt wd B c m T f_elems f_cur f_n f_atoms b_base b_atomLen b_atomWord b_mult b_basis) (hok : th_ok A N el cd wd B c T m) {q6 : ch_C} (k6 : q6.1.length ≤ 24 ∧ wd_ok q6.1 ∧ q6.2 < 25) {sd : Nat} {tt : Nat → Nat} (hsd : sd < 2) (htt : ∀ a, a < A → b_mult (sd * 8 + a) = nI (tt a)) {post : Int32 → SY → Prop}
    (h : ∀ cl cb cw, post (nI (oc_t tt (oc_a N cd c (mk_item A cd B (fun a => (wd a, cd a)) T m) (mk_atom cd c (fun a => (wd a, cd a)) T) q6 B) A)) (f_bags, f_elems, f_maxBasis, f_maxWord, f_state, f_cur, f_n, f_atoms, f_pendLen, b_pend, b_base, b_atomLen, b_atomWord, b_mult, b_basis, cl, cb, cw)) :
    ∀ n a cl cb cw, a ≤ A → A < n + a → yy_S cl cb cw 6 q6 → wY_occurrences_46 post (nI sd) n (nI (oc_t tt (oc_a N cd c (mk_item A cd B (fun a => (wd a, cd a)) T m) (mk_atom cd c (fun a => (wd a, cd a)) T) q6 B) a)) (nI a) f_bags f_elems f_maxBasis f_maxWord f_state f_cur f_n f_atoms f_pendLen b_pend b_base b_atomLen b_atomWord b_mult b_basis cl cb cw := by
  have E' := E
  obtain ⟨e1, e2, e3, e4, e5, e6, _⟩ := E'
  have hA8 := e1.1
  have hN := e3.1
  intro n
  induction n with
  | zero => intro a cl cb cw h1 h2; omega
  | succ n ih =>
    intro a cl cb cw ha hn h6
    unfold wY_occurrences_46
    refine pk_le A a (fun g => ?_) (fun g => ?_) e2.1 rfl
    · have : a = A := by omega
      subst this
      exact h cl cb cw
    · have em : nI sd * 8 + nI a = nI (sd * 8 + a) := by
        rw [show nI sd * 8 = nI (sd * 8) from pk_mul sd 8, nI_add]
      have hs : oc_t tt (oc_a N cd c (mk_item A cd B (fun a => (wd a, cd a)) T m) (mk_atom cd c (fun a => (wd a, cd a)) T) q6 B) (a + 1) = oc_t tt (oc_a N cd c (mk_item A cd B (fun a => (wd a, cd a)) T m) (mk_atom cd c (fun a => (wd a, cd a)) T) q6 B) a + tt a * oc_a N cd c (mk_item A cd B (fun a => (wd a, cd a)) T m) (mk_atom cd c (fun a => (wd a, cd a)) T) q6 B a := rfl
      have hcd := (e1.2.1 a g).1
      rw [em, nI_clamp (show sd * 8 + a < 2 ^ 31 by omega), htt a g, nI_clamp (show a < 2 ^ 31 by omega), (e2.2 a g).1]
      have alone : ¬ (20 ≤ cd a ∧ c a ≠ 0) → wY_occurrences_142 post (wY_occurrences_46 post (nI sd) n) (nI sd) (nI (oc_t tt (oc_a N cd c (mk_item A cd B (fun a => (wd a, cd a)) T m) (mk_atom cd c (fun a => (wd a, cd a)) T) q6 B) a)) (nI a) (nI (tt a)) f_bags f_elems f_maxBasis f_maxWord f_state f_cur f_n f_atoms f_pendLen b_pend b_base b_atomLen b_atomWord b_mult b_basis cl cb cw := by
        intro hno
        have hoc : oc_a N cd c (mk_item A cd B (fun a => (wd a, cd a)) T m) (mk_atom cd c (fun a => (wd a, cd a)) T) q6 B a = if mk_atom cd c (fun a => (wd a, cd a)) T a = some q6 then 1 else 0 := if_neg hno
        rw [hoc] at hs
        unfold wY_occurrences_142
        refine yq_eq E hok h6 k6 (t := 16 + a) (Or.inr (Or.inr ⟨rfl, a, g, rfl, rfl⟩)) (fun ho cl' cb' cw' s6 => br_f (by decide) ?_) (fun ho cl' cb' cw' s6 => br_t rfl (nm_r (nI_1 a) ?_))
        · rw [th_o_a] at ho
          rw [if_pos ho, Nat.mul_one] at hs
          rw [nI_add, ← hs]
          exact nm_e (nm_r (nI_1 a) (ih (a + 1) cl' cb' cw' (by omega) (by omega) s6))
        · rw [th_o_a] at ho
          rw [if_neg ho, Nat.mul_zero] at hs
          have hs2 : oc_t tt (oc_a N cd c (mk_item A cd B (fun a => (wd a, cd a)) T m) (mk_atom cd c (fun a => (wd a, cd a)) T) q6 B) (a + 1) = oc_t tt (oc_a N cd c (mk_item A cd B (fun a => (wd a, cd a)) T m) (mk_atom cd c (fun a => (wd a, cd a)) T) q6 B) a := hs
          rw [← hs2]
          exact ih (a + 1) cl' cb' cw' (by omega) (by omega) s6
      refine ⟨vp_in_nI (by omega) (by omega), nm_e ⟨vp_in_nI (by omega) (by omega), ?_⟩⟩
      refine pk_lt (cd a) 20 (fun g2 => alone (fun q => by omega)) (fun g2 => ym_coef hA8 e4 g ?_)
      by_cases hz : c a = 0
      · exact br_t ((ym_cz e4 g).mpr hz) (alone (fun q => q.2 hz))
      · refine br_f (fun q => hz ((ym_cz e4 g).mp q)) ⟨N + 1, ?_⟩
        have hoc : oc_a N cd c (mk_item A cd B (fun a => (wd a, cd a)) T m) (mk_atom cd c (fun a => (wd a, cd a)) T) q6 B a = oc_k (mk_item A cd B (fun a => (wd a, cd a)) T m) q6 B a N := if_pos ⟨g2, hz⟩
        rw [hoc] at hs
        refine yo_93 E hok k6 (t0 := oc_t tt (oc_a N cd c (mk_item A cd B (fun a => (wd a, cd a)) T m) (mk_atom cd c (fun a => (wd a, cd a)) T) q6 B) a) (tt := tt a) g (fun cl' cb' cw' s6 => ?_) (N + 1) 0 cl cb cw (Nat.zero_le _) (by omega) h6
        rw [← hs]
        exact ih (a + 1) cl' cb' cw' (by omega) (by omega) s6
end YO
end
section
/-! the component's things by their names, and occurrences -/
section XO
variable {f_bags f_elems f_maxBasis f_maxWord f_stage f_currentMask f_pendingWord f_pendingLength f_atoms f_boxSize f_liveSet f_elementSet f_frontierEnd f_basisSize f_knownCount f_trailSize : Int32} {a_atomCode a_atomWord a_leftTimes a_rightTimes a_coefficient a_fieldCap a_fieldShift a_seen a_frontierCode a_frontierDefect a_basisCode a_cover a_choice a_covered a_trailMark a_nodeSymbol a_nodeChild a_atomNode a_parent a_weight a_shape a_least a_trailNode a_trailShape a_trailLeast a_thingBase : Nat → Int32} {a_thingWord : Nat → Int64}
variable {A N el : Nat} {cd lt rt : Nat → Nat} {wd : Nat → List Nat} {B : Nat → Nat → Nat} {c : Nat → Int} {m : Nat} {T : Nat → ch_C}
theorem xo_num (hA : f_atoms = nI A) (hA8 : A ≤ 8) (hN : f_basisSize = nI N) (hN12 : N ≤ 12) (he : f_elems = nI el) (hel : el ≤ 4) {what i : Int32} {post : Int32 → Prop} (h : ∀ t, th_n A N el what i t → post (nI t)) (hb : (∀ t, ¬ th_n A N el what i t) → post (-1)) : wpX_thingNumber post (f_bags, f_elems, f_maxBasis, f_maxWord, f_stage, f_currentMask, f_pendingWord, f_pendingLength, f_atoms, f_boxSize, f_liveSet, f_elementSet, f_frontierEnd, f_basisSize, f_knownCount, f_trailSize, a_atomCode, a_atomWord, a_leftTimes, a_rightTimes, a_coefficient, a_fieldCap, a_fieldShift, a_seen, a_frontierCode, a_frontierDefect, a_basisCode, a_cover, a_choice, a_covered, a_trailMark, a_nodeSymbol, a_nodeChild, a_atomNode, a_parent, a_weight, a_shape, a_least, a_trailNode, a_trailShape, a_trailLeast, a_thingBase, a_thingWord) what i := by
  have inj : ∀ {a b : Nat}, a < 2 ^ 31 → b < 2 ^ 31 → nI a = nI b → a = b := fun ha hb e => (nI_eq ha hb).mp e
  refine br_c (fun h0 => ?_) (fun h0 => hb (fun t ht => ?_))
  · obtain ⟨j, hj, rfl⟩ := nI_of (Int32.not_lt.mpr h0)
    have last : ¬ what = 0 ∨ N ≤ j → ¬ what = 1 ∨ el ≤ j → wX_thingNumber_38 post what (nI j) f_bags f_elems f_maxBasis f_maxWord f_stage f_currentMask f_pendingWord f_pendingLength f_atoms f_boxSize f_liveSet f_elementSet f_frontierEnd f_basisSize f_knownCount f_trailSize a_atomCode a_atomWord a_leftTimes a_rightTimes a_coefficient a_fieldCap a_fieldShift a_seen a_frontierCode a_frontierDefect a_basisCode a_cover a_choice a_covered a_trailMark a_nodeSymbol a_nodeChild a_atomNode a_parent a_weight a_shape a_least a_trailNode a_trailShape a_trailLeast a_thingBase a_thingWord := by
      intro n0 n1
      unfold wX_thingNumber_38
      have no : (¬ what = 2 ∨ A ≤ j) → ∀ t, ¬ th_n A N el what (nI j) t := by
        intro n2 t ht
        rcases ht with ⟨w, k, hk, hi, _⟩ | ⟨w, k, hk, hi, _⟩ | ⟨w, k, hk, hi, _⟩
        · have := inj hj (show k < 2 ^ 31 by omega) hi
          rcases n0 with z | z
          · exact z w
          · omega
        · have := inj hj (show k < 2 ^ 31 by omega) hi
          rcases n1 with z | z
          · exact z w
          · omega
        · have := inj hj (show k < 2 ^ 31 by omega) hi
          rcases n2 with z | z
          · exact z w
          · omega
      refine br_c (fun w2 => pk_le A j (fun g => hb (no (Or.inr g))) (fun g => ?_) hA rfl) (fun w2 => hb (no (Or.inl w2)))
      rw [show (16 : Int32) + nI j = nI (16 + j) from nI_add 16 j]
      exact h _ (Or.inr (Or.inr ⟨w2, j, g, rfl, rfl⟩))
    have mid : ¬ what = 0 ∨ N ≤ j → wX_thingNumber_20 post what (nI j) f_bags f_elems f_maxBasis f_maxWord f_stage f_currentMask f_pendingWord f_pendingLength f_atoms f_boxSize f_liveSet f_elementSet f_frontierEnd f_basisSize f_knownCount f_trailSize a_atomCode a_atomWord a_leftTimes a_rightTimes a_coefficient a_fieldCap a_fieldShift a_seen a_frontierCode a_frontierDefect a_basisCode a_cover a_choice a_covered a_trailMark a_nodeSymbol a_nodeChild a_atomNode a_parent a_weight a_shape a_least a_trailNode a_trailShape a_trailLeast a_thingBase a_thingWord := by
      intro n0
      unfold wX_thingNumber_20
      refine br_c (fun w1 => pk_le el j (fun g => last n0 (Or.inr g)) (fun g => ?_) he rfl) (fun w1 => last n0 (Or.inl w1))
      rw [show (12 : Int32) + nI j = nI (12 + j) from nI_add 12 j]
      exact h _ (Or.inr (Or.inl ⟨w1, j, g, rfl, rfl⟩))
    exact br_c (fun w0 => pk_le N j (fun g => mid (Or.inr g)) (fun g => h _ (Or.inl ⟨w0, j, g, rfl, rfl⟩)) hN rfl) (fun w0 => mid (Or.inl w0))
  · rcases ht with ⟨_, k, hk, hi, _⟩ | ⟨_, k, hk, hi, _⟩ | ⟨_, k, hk, hi, _⟩
    · rw [hi] at h0; exact h0 (nI_pos' (by omega))
    · rw [hi] at h0; exact h0 (nI_pos' (by omega))
    · rw [hi] at h0; exact h0 (nI_pos' (by omega))
theorem xo_is (hA8 : A ≤ 8) (hN12 : N ≤ 12) (hel : el ≤ 4) {tb : Nat → Int32} {tw : Nat → Int64} (h : xt_All A N el cd B (fun a => (wd a, cd a)) c T m tb tw) {what i : Int32} {t : Nat} (ht : th_n A N el what i t) : t < 24 ∧ xt_is (tb t) (tw t) (th_o A cd B (fun a => (wd a, cd a)) c T m t) := by
  rcases ht with ⟨_, k, hk, _, e⟩ | ⟨_, k, hk, _, e⟩ | ⟨_, k, hk, _, e⟩
  · subst e
    rw [th_o_k (show t < 12 by omega)]
    exact ⟨by omega, h.1 t hk⟩
  · subst e
    rw [th_o_v (show k < 4 by omega)]
    exact ⟨by omega, h.2.1 k hk⟩
  · subst e
    rw [th_o_a]
    exact ⟨by omega, h.2.2 k hk⟩
theorem xo_ok (hA8 : A ≤ 8) (hN12 : N ≤ 12) (hel : el ≤ 4) {tb : Nat → Int32} {tw : Nat → Int64} (h : xt_All A N el cd B (fun a => (wd a, cd a)) c T m tb tw) : th_ok A N el cd wd B c T m := by
  intro what i t q ht ho
  rcases (xo_is hA8 hN12 hel h ht).2 with ⟨e, _⟩ | ⟨q', e, _, _, e3, e4, e5⟩
  · rw [ho] at e; exact absurd e (fun z => nomatch z)
  · rw [ho] at e
    have := Option.some.inj e
    subst this
    exact ⟨e3, e4, e5⟩
theorem xo_same {s t : Nat} (hs : s < 24) (ht : t < 24) {o : Option ch_C} {q : ch_C} (h1 : xt_is (a_thingBase s) (a_thingWord s) o) (h2 : xt_is (a_thingBase t) (a_thingWord t) (some q)) {post : Int32 → Prop} (g1 : o = some q → post 1) (g0 : ¬ o = some q → post 0) : wpX_sameThing post (f_bags, f_elems, f_maxBasis, f_maxWord, f_stage, f_currentMask, f_pendingWord, f_pendingLength, f_atoms, f_boxSize, f_liveSet, f_elementSet, f_frontierEnd, f_basisSize, f_knownCount, f_trailSize, a_atomCode, a_atomWord, a_leftTimes, a_rightTimes, a_coefficient, a_fieldCap, a_fieldShift, a_seen, a_frontierCode, a_frontierDefect, a_basisCode, a_cover, a_choice, a_covered, a_trailMark, a_nodeSymbol, a_nodeChild, a_atomNode, a_parent, a_weight, a_shape, a_least, a_trailNode, a_trailShape, a_trailLeast, a_thingBase, a_thingWord) (nI s) (nI t) := by
  have is : vp_in (nI s) 24 := vp_in_nI hs (by omega)
  have it : vp_in (nI t) 24 := vp_in_nI ht (by omega)
  unfold wpX_sameThing
  dsimp only
  rw [nI_clamp (show s < 2 ^ 31 by omega), nI_clamp (show t < 2 ^ 31 by omega)]
  rcases h2 with ⟨e, _⟩ | ⟨q', e, b2, w2, l2, o2, c2⟩
  · exact absurd e (fun z => nomatch z)
  · have := Option.some.inj e
    subst this
    rw [b2, w2]
    rcases h1 with ⟨e1, b1⟩ | ⟨q1, e1, b1, w1, l1, o1, c1⟩
    · rw [b1]
      refine ⟨is, it, br_f (fun z => ?_) (g0 (by rw [e1]; exact fun z => nomatch z))⟩
      have := nI_pos (n := q.2) (by omega)
      rw [← z] at this
      exact this (by decide)
    · rw [b1, w1]
      have v1 := wd_lt48 o1 l1
      have v2 := wd_lt48 o2 l2
      refine ⟨is, it, pk_eq q1.2 q.2 (fun e2 => ⟨is, it, ?_⟩) (fun e2 => g0 (by rw [e1]; exact fun z => e2 (by rw [Option.some.inj z])))⟩
      by_cases e3 : wd_p q1.1 = wd_p q.1
      · exact br_t (by rw [e3]) (g1 (by rw [e1]; exact congrArg some (Prod.ext (wd_inj o1 o2 e3) e2)))
      · exact br_f (fun z => e3 ((pk_lEQ (by omega) (by omega)).mp z)) (g0 (by rw [e1]; exact fun z => e3 (by rw [Option.some.inj z])))
theorem xo_40 (hA8 : A ≤ 8) (hN12 : N ≤ 12) (hN : f_basisSize = nI N) (hm : f_currentMask = nI m) (hm2 : m < 2 ^ N) (hAll : xt_All A N el cd B (fun a => (wd a, cd a)) c T m a_thingBase a_thingWord) (h13 : rx_f (bx_w cd c) A 0 ≤ 13) (hB : xb_B A cd c a_coefficient a_fieldCap a_fieldShift) {bs : Nat → Nat} (hbs : ∀ k, k < N → a_basisCode k = nI (bs k) ∧ bs k < 2 ^ 31 ∧ ∀ a, a < A → rx_e (bx_w cd c) A (bs k) a = B k a) {a t : Nat} (ha : a < A) (ht : t < 24) {q : ch_C} (hq : xt_is (a_thingBase t) (a_thingWord t) (some q)) {post : Int32 → Prop}
    (h : post (nI (oc_k (mk_item A cd B (fun a => (wd a, cd a)) T m) q B a N))) : ∀ n k, k ≤ N → N < n + k → wX_copiesFromAtom_40 post (nI a) (nI t) f_bags f_elems f_maxBasis f_maxWord f_stage f_currentMask f_pendingWord f_pendingLength f_atoms f_boxSize f_liveSet f_elementSet f_frontierEnd f_basisSize f_knownCount f_trailSize a_atomCode a_atomWord a_leftTimes a_rightTimes a_coefficient a_fieldCap a_fieldShift a_seen a_frontierCode a_frontierDefect a_basisCode a_cover a_choice a_covered a_trailMark a_nodeSymbol a_nodeChild a_atomNode a_parent a_weight a_shape a_least a_trailNode a_trailShape a_trailLeast a_thingBase a_thingWord n (nI (oc_k (mk_item A cd B (fun a => (wd a, cd a)) T m) q B a k)) (nI k) := by
  have hp12 : 2 ^ N ≤ 2 ^ 12 := Nat.pow_le_pow_right (by omega) hN12
  intro n
  induction n with
  | zero => intro k h1 h2; omega
  | succ n ih =>
    intro k hk hn
    unfold wX_copiesFromAtom_40
    refine pk_le N k (fun g => ?_) (fun g => ?_) hN rfl
    · have : k = N := by omega
      rw [this]; exact h
    · have hs : oc_k (mk_item A cd B (fun a => (wd a, cd a)) T m) q B a (k + 1) = oc_k (mk_item A cd B (fun a => (wd a, cd a)) T m) q B a k + (if mk_item A cd B (fun a => (wd a, cd a)) T m k = some q then B k a else 0) := rfl
      have skip : ¬ mk_item A cd B (fun a => (wd a, cd a)) T m k = some q → wX_copiesFromAtom_40 post (nI a) (nI t) f_bags f_elems f_maxBasis f_maxWord f_stage f_currentMask f_pendingWord f_pendingLength f_atoms f_boxSize f_liveSet f_elementSet f_frontierEnd f_basisSize f_knownCount f_trailSize a_atomCode a_atomWord a_leftTimes a_rightTimes a_coefficient a_fieldCap a_fieldShift a_seen a_frontierCode a_frontierDefect a_basisCode a_cover a_choice a_covered a_trailMark a_nodeSymbol a_nodeChild a_atomNode a_parent a_weight a_shape a_least a_trailNode a_trailShape a_trailLeast a_thingBase a_thingWord n (nI (oc_k (mk_item A cd B (fun a => (wd a, cd a)) T m) q B a k)) (nI (k + 1)) := by
        intro hno
        rw [if_neg hno] at hs
        have hs2 : oc_k (mk_item A cd B (fun a => (wd a, cd a)) T m) q B a (k + 1) = oc_k (mk_item A cd B (fun a => (wd a, cd a)) T m) q B a k := hs
        rw [← hs2]
        exact ih (k + 1) (by omega) (by omega)
      cases hb : m.testBit k with
      | false =>
        refine br_t (by rw [hm]; exact (ib_bit0 (by omega) (by omega)).mpr hb) (nm_r (nI_1 k) (skip ?_))
        unfold mk_item
        rw [hb, if_neg Bool.false_ne_true]
        exact fun z => nomatch z
      | true =>
        refine br_f (fun z => ?_) (xo_same (show k < 24 by omega) ht (hAll.1 k g) hq (fun e => br_f (by decide) ?_) (fun e => br_t rfl (nm_r (nI_1 k) (skip e))))
        · rw [hm, ib_bit0 (by omega) (by omega), hb] at z
          exact absurd z (by decide)
        · obtain ⟨b1, b2, b3⟩ := hbs k g
          rw [if_pos e] at hs
          rw [nI_clamp (show k < 2 ^ 31 by omega), b1]
          refine ⟨vp_in_nI (by omega) (by omega), xb_entry hA8 h13 hB b2 ha ?_⟩
          rw [b3 a ha, nI_add, ← hs]
          exact nm_e (nm_r (nI_1 k) (ih (k + 1) (by omega) (by omega)))
theorem xo_copies (hA8 : A ≤ 8) (hN12 : N ≤ 12) (hN : f_basisSize = nI N) (hm : f_currentMask = nI m) (hm2 : m < 2 ^ N) (hAll : xt_All A N el cd B (fun a => (wd a, cd a)) c T m a_thingBase a_thingWord) (h13 : rx_f (bx_w cd c) A 0 ≤ 13) (hc3 : ∀ a, a < A → -3 ≤ c a ∧ c a ≤ 3) (hB : xb_B A cd c a_coefficient a_fieldCap a_fieldShift) (hcd : ∀ a, a < A → a_atomCode a = nI (cd a) ∧ cd a < 25) {bs : Nat → Nat} (hbs : ∀ k, k < N → a_basisCode k = nI (bs k) ∧ bs k < 2 ^ 31 ∧ ∀ a, a < A → rx_e (bx_w cd c) A (bs k) a = B k a) {a t : Nat} (ha : a < A) (ht : t < 24) {q : ch_C} (hq : xt_is (a_thingBase t) (a_thingWord t) (some q)) {post : Int32 → Prop}
    (h : post (nI (oc_a N cd c (mk_item A cd B (fun a => (wd a, cd a)) T m) (mk_atom cd c (fun a => (wd a, cd a)) T) q B a))) : wpX_copiesFromAtom post (f_bags, f_elems, f_maxBasis, f_maxWord, f_stage, f_currentMask, f_pendingWord, f_pendingLength, f_atoms, f_boxSize, f_liveSet, f_elementSet, f_frontierEnd, f_basisSize, f_knownCount, f_trailSize, a_atomCode, a_atomWord, a_leftTimes, a_rightTimes, a_coefficient, a_fieldCap, a_fieldShift, a_seen, a_frontierCode, a_frontierDefect, a_basisCode, a_cover, a_choice, a_covered, a_trailMark, a_nodeSymbol, a_nodeChild, a_atomNode, a_parent, a_weight, a_shape, a_least, a_trailNode, a_trailShape, a_trailLeast, a_thingBase, a_thingWord) (nI a) (nI t) := by
  have ia : vp_in (nI a) 8 := vp_in_nI (by omega) (by omega)
  obtain ⟨c1, c2⟩ := hcd a ha
  obtain ⟨d1, d2⟩ := hc3 a ha
  have alone : ¬ (20 ≤ cd a ∧ c a ≠ 0) → wX_copiesFromAtom_17 post (nI a) (nI t) f_bags f_elems f_maxBasis f_maxWord f_stage f_currentMask f_pendingWord f_pendingLength f_atoms f_boxSize f_liveSet f_elementSet f_frontierEnd f_basisSize f_knownCount f_trailSize a_atomCode a_atomWord a_leftTimes a_rightTimes a_coefficient a_fieldCap a_fieldShift a_seen a_frontierCode a_frontierDefect a_basisCode a_cover a_choice a_covered a_trailMark a_nodeSymbol a_nodeChild a_atomNode a_parent a_weight a_shape a_least a_trailNode a_trailShape a_trailLeast a_thingBase a_thingWord := by
    intro hno
    have hoc : oc_a N cd c (mk_item A cd B (fun a => (wd a, cd a)) T m) (mk_atom cd c (fun a => (wd a, cd a)) T) q B a = if mk_atom cd c (fun a => (wd a, cd a)) T a = some q then 1 else 0 := if_neg hno
    rw [hoc] at h
    unfold wX_copiesFromAtom_17
    rw [show (16 : Int32) + nI a = nI (16 + a) from nI_add 16 a]
    refine xo_same (show 16 + a < 24 by omega) ht (hAll.2.2 a ha) hq (fun e => br_f (by decide) ?_) (fun e => br_t rfl ?_)
    · rw [if_pos e] at h; exact h
    · rw [if_neg e] at h; exact h
  unfold wpX_copiesFromAtom
  refine ⟨ia, ?_⟩
  rw [nI_clamp (show a < 2 ^ 31 by omega), c1]
  refine pk_lt (cd a) 20 (fun g => br_t rfl (alone (fun z => by omega))) (fun g => br_f (by decide) ⟨ia, ?_⟩)
  rw [(hB a ha).1]
  by_cases hz : c a = 0
  · exact br_t ((iI_eq0 (by omega) (by omega)).mpr hz) (alone (fun z => z.2 hz))
  · refine br_f (fun z => hz ((iI_eq0 (by omega) (by omega)).mp z)) ⟨N + 1, xo_40 hA8 hN12 hN hm hm2 hAll h13 hB hbs ha ht hq ?_ (N + 1) 0 (Nat.zero_le _) (by omega)⟩
    have hoc : oc_a N cd c (mk_item A cd B (fun a => (wd a, cd a)) T m) (mk_atom cd c (fun a => (wd a, cd a)) T) q B a = oc_k (mk_item A cd B (fun a => (wd a, cd a)) T m) q B a N := if_pos ⟨g, hz⟩
    rw [hoc] at h
    exact h
theorem xo_57 (hA8 : A ≤ 8) (hfa : f_atoms = nI A) {side : Int32} {tt : Nat → Nat} (htt : ∀ a, a < A → tt a ≤ 3 ∧ ((side = 0 ∧ a_leftTimes a = nI (tt a)) ∨ (side ≠ 0 ∧ a_rightTimes a = nI (tt a)))) {t : Nat} {f : Nat → Nat} (hf : ∀ a, a < A → ∀ post : Int32 → Prop, post (nI (f a)) → wpX_copiesFromAtom post (f_bags, f_elems, f_maxBasis, f_maxWord, f_stage, f_currentMask, f_pendingWord, f_pendingLength, f_atoms, f_boxSize, f_liveSet, f_elementSet, f_frontierEnd, f_basisSize, f_knownCount, f_trailSize, a_atomCode, a_atomWord, a_leftTimes, a_rightTimes, a_coefficient, a_fieldCap, a_fieldShift, a_seen, a_frontierCode, a_frontierDefect, a_basisCode, a_cover, a_choice, a_covered, a_trailMark, a_nodeSymbol, a_nodeChild, a_atomNode, a_parent, a_weight, a_shape, a_least, a_trailNode, a_trailShape, a_trailLeast, a_thingBase, a_thingWord) (nI a) (nI t)) {post : Int32 → Prop} (h : post (nI (oc_t tt f A))) : ∀ n a, a ≤ A → A < n + a → wX_occurrences_57 post side (nI t) f_bags f_elems f_maxBasis f_maxWord f_stage f_currentMask f_pendingWord f_pendingLength f_atoms f_boxSize f_liveSet f_elementSet f_frontierEnd f_basisSize f_knownCount f_trailSize a_atomCode a_atomWord a_leftTimes a_rightTimes a_coefficient a_fieldCap a_fieldShift a_seen a_frontierCode a_frontierDefect a_basisCode a_cover a_choice a_covered a_trailMark a_nodeSymbol a_nodeChild a_atomNode a_parent a_weight a_shape a_least a_trailNode a_trailShape a_trailLeast a_thingBase a_thingWord n (nI (oc_t tt f a)) (nI a) := by
  intro n
  induction n with
  | zero => intro a h1 h2; omega
  | succ n ih =>
    intro a ha hn
    unfold wX_occurrences_57
    refine pk_le A a (fun g => ?_) (fun g => ?_) hfa rfl
    · have : a = A := by omega
      rw [this]; exact h
    · have ia : vp_in (nI a) 8 := vp_in_nI (by omega) (by omega)
      have ca : (nI a).toNatClampNeg = a := nI_clamp (by omega)
      obtain ⟨t1, t2⟩ := htt a g
      have hs : oc_t tt f (a + 1) = oc_t tt f a + tt a * f a := rfl
      have fin : (nI (tt a) ≤ 0 → ∀ y : Int32, y = nI a + 1 → wX_occurrences_57 post side (nI t) f_bags f_elems f_maxBasis f_maxWord f_stage f_currentMask f_pendingWord f_pendingLength f_atoms f_boxSize f_liveSet f_elementSet f_frontierEnd f_basisSize f_knownCount f_trailSize a_atomCode a_atomWord a_leftTimes a_rightTimes a_coefficient a_fieldCap a_fieldShift a_seen a_frontierCode a_frontierDefect a_basisCode a_cover a_choice a_covered a_trailMark a_nodeSymbol a_nodeChild a_atomNode a_parent a_weight a_shape a_least a_trailNode a_trailShape a_trailLeast a_thingBase a_thingWord n (nI (oc_t tt f a)) y) ∧ (¬ nI (tt a) ≤ 0 → wpX_copiesFromAtom (fun r => ∀ z : Int32, z = nI (oc_t tt f a) + (nI (tt a) * r) → ∀ y : Int32, y = nI a + 1 → wX_occurrences_57 post side (nI t) f_bags f_elems f_maxBasis f_maxWord f_stage f_currentMask f_pendingWord f_pendingLength f_atoms f_boxSize f_liveSet f_elementSet f_frontierEnd f_basisSize f_knownCount f_trailSize a_atomCode a_atomWord a_leftTimes a_rightTimes a_coefficient a_fieldCap a_fieldShift a_seen a_frontierCode a_frontierDefect a_basisCode a_cover a_choice a_covered a_trailMark a_nodeSymbol a_nodeChild a_atomNode a_parent a_weight a_shape a_least a_trailNode a_trailShape a_trailLeast a_thingBase a_thingWord n z y) (f_bags, f_elems, f_maxBasis, f_maxWord, f_stage, f_currentMask, f_pendingWord, f_pendingLength, f_atoms, f_boxSize, f_liveSet, f_elementSet, f_frontierEnd, f_basisSize, f_knownCount, f_trailSize, a_atomCode, a_atomWord, a_leftTimes, a_rightTimes, a_coefficient, a_fieldCap, a_fieldShift, a_seen, a_frontierCode, a_frontierDefect, a_basisCode, a_cover, a_choice, a_covered, a_trailMark, a_nodeSymbol, a_nodeChild, a_atomNode, a_parent, a_weight, a_shape, a_least, a_trailNode, a_trailShape, a_trailLeast, a_thingBase, a_thingWord) (nI a) (nI t)) := by
        refine pk_le (tt a) 0 (fun g2 => nm_r (nI_1 a) ?_) (fun g2 => hf a g _ ?_)
        · have z : tt a = 0 := by omega
          rw [z, Nat.zero_mul] at hs
          have hs2 : oc_t tt f (a + 1) = oc_t tt f a := hs
          rw [← hs2]
          exact ih (a + 1) (by omega) (by omega)
        · rw [pk_mul, nI_add, ← hs]
          exact nm_e (nm_r (nI_1 a) (ih (a + 1) (by omega) (by omega)))
      unfold wpX_timesOn
      dsimp only
      rw [ca]
      rcases t2 with ⟨s, e⟩ | ⟨s, e⟩
      · refine br_t s ⟨ia, ?_⟩
        rw [e]; exact fin
      · refine br_f s ⟨ia, ?_⟩
        rw [e]; exact fin
end XO
end
section
/-! the reference's solve -/
section YS
variable {f_bags f_elems f_maxBasis f_maxWord f_state f_cur f_n f_atoms f_pendLen : Int32} {b_pend b_base b_atomLen b_atomWord b_mult b_basis b_cLen b_cBase b_cWord : Nat → Int32}
variable {A : Nat} {cd lt rt : Nat → Nat} {wd : Nat → List Nat} {c : Nat → Int} {M : Nat}
theorem ys_sol_l (hfd : fd_ok A cd wd) (hF : yf_A A cd wd f_atoms b_base b_atomLen b_atomWord) (hM : yf_M A lt rt c b_mult) {x : Nat} (hx : x < 2 ^ rx_f (fun _ => 2) A 0) (hx31 : x < 2 ^ 31) {post : Int32 → Prop} (h1 : di_sol A (bx_cap cd c) c (rx_e (fun _ => 2) A x) → post 1) (h0 : ¬ di_sol A (bx_cap cd c) c (rx_e (fun _ => 2) A x) → post 0) :
    ∀ n a, a ≤ A → A < n + a → (∀ b, b < a → rx_e (fun _ => 2) A x b ≤ bx_cap cd c b) → wY_isSolution_4 post (nI x) f_bags f_elems f_maxBasis f_maxWord f_state f_cur f_n f_atoms f_pendLen b_pend b_base b_atomLen b_atomWord b_mult b_basis b_cLen b_cBase b_cWord n (iI (di_sum c (rx_e (fun _ => 2) A x) a)) (nI a) := by
  have hA8 := hfd.1
  have hb3 : ∀ b, b < A → -3 ≤ c b ∧ c b ≤ 3 := fun b hb => by
    obtain ⟨_, _, m3, m4, m5⟩ := hM b hb
    omega
  have hbd : ∀ n, n ≤ A → -(9 * (n : Int)) ≤ di_sum c (rx_e (fun _ => 2) A x) n ∧ di_sum c (rx_e (fun _ => 2) A x) n ≤ 9 * (n : Int) := by
    intro n
    induction n with
    | zero => intro _; exact ⟨by show -(9 * ((0 : Nat) : Int)) ≤ 0; omega, by show (0 : Int) ≤ 9 * ((0 : Nat) : Int); omega⟩
    | succ n ih =>
      intro hn
      have h1 := ih (by omega)
      have h2 := yb_e4 A x n
      obtain ⟨h3, h4⟩ := hb3 n (by omega)
      have h5 : -9 ≤ c n * ((rx_e (fun _ => 2) A x n : Nat) : Int) ∧ c n * ((rx_e (fun _ => 2) A x n : Nat) : Int) ≤ 9 := by
        rcases (by omega : rx_e (fun _ => 2) A x n = 0 ∨ rx_e (fun _ => 2) A x n = 1 ∨ rx_e (fun _ => 2) A x n = 2 ∨ rx_e (fun _ => 2) A x n = 3) with z | z | z | z <;> rw [z] <;> constructor <;> omega
      show -(9 * ((n + 1 : Nat) : Int)) ≤ di_sum c _ n + c n * _ ∧ di_sum c _ n + c n * _ ≤ 9 * ((n + 1 : Nat) : Int)
      omega
  intro n
  induction n with
  | zero => intro a h1 h2; omega
  | succ n ih =>
    intro a ha hn hle
    unfold wY_isSolution_4
    refine pk_le A a (fun g => ?_) (fun g => ?_) hF.1 rfl
    · have e : a = A := by omega
      subst e
      have hb := hbd a (Nat.le_refl _)
      refine pk_eq x 0 (fun g2 => h0 (fun hs => ?_)) (fun g2 => ?_)
      · obtain ⟨⟨b, hb', hp⟩, _⟩ := hs
        rw [g2, bf_e0] at hp
        omega
      · by_cases hz : di_sum c (rx_e (fun _ => 2) a x) a = 0
        · refine br_t ((iI_eq0 (by omega) (by omega)).mpr hz) (h1 ⟨?_, hle, hz⟩)
          apply Classical.byContradiction
          intro hno
          apply g2
          apply rx_ext (fun _ => 2) hx (Nat.two_pow_pos _)
          intro b hb
          rw [bf_e0]
          apply Classical.byContradiction
          intro hnz
          exact hno ⟨b, hb, by omega⟩
        · exact br_f (fun q => hz ((iI_eq0 (by omega) (by omega)).mp q)) (h0 (fun hs => hz hs.2.2))
    · have he4 := yb_e4 A x a
      have hcd := (hfd.2.1 a g).1
      have hs : di_sum c (rx_e (fun _ => 2) A x) (a + 1) = di_sum c (rx_e (fun _ => 2) A x) a + c a * ((rx_e (fun _ => 2) A x a : Nat) : Int) := rfl
      have cont : rx_e (fun _ => 2) A x a ≤ bx_cap cd c a → wY_isSolution_58 post (wY_isSolution_4 post (nI x) f_bags f_elems f_maxBasis f_maxWord f_state f_cur f_n f_atoms f_pendLen b_pend b_base b_atomLen b_atomWord b_mult b_basis b_cLen b_cBase b_cWord n) (nI x) (iI (di_sum c (rx_e (fun _ => 2) A x) a)) (nI a) (nI (rx_e (fun _ => 2) A x a)) (iI (c a)) f_bags f_elems f_maxBasis f_maxWord f_state f_cur f_n f_atoms f_pendLen b_pend b_base b_atomLen b_atomWord b_mult b_basis b_cLen b_cBase b_cWord := by
        intro hc
        unfold wY_isSolution_58
        rw [← iI_nI, iI_mul, iI_add, ← hs]
        refine nm_e (nm_r (nI_1 a) (ih (a + 1) (by omega) (by omega) (fun b hb => ?_)))
        by_cases e : b = a
        · rw [e]; exact hc
        · exact hle b (by omega)
      have mid : (rx_e (fun _ => 2) A x a ≤ 0 ∨ c a ≠ 0) → wY_isSolution_39 post (wY_isSolution_4 post (nI x) f_bags f_elems f_maxBasis f_maxWord f_state f_cur f_n f_atoms f_pendLen b_pend b_base b_atomLen b_atomWord b_mult b_basis b_cLen b_cBase b_cWord n) (nI x) (iI (di_sum c (rx_e (fun _ => 2) A x) a)) (nI a) (nI (rx_e (fun _ => 2) A x a)) (iI (c a)) f_bags f_elems f_maxBasis f_maxWord f_state f_cur f_n f_atoms f_pendLen b_pend b_base b_atomLen b_atomWord b_mult b_basis b_cLen b_cBase b_cWord := by
        intro hor
        unfold wY_isSolution_39
        refine pk_le (rx_e (fun _ => 2) A x a) 1 (fun g2 => cont ?_) (fun g2 => ⟨vp_in_nI (by omega) (by omega), ?_⟩)
        · unfold bx_cap
          split
          · rename_i hz
            rcases hor with q | q
            · omega
            · exact absurd hz q
          · split <;> omega
        · rw [nI_clamp (show a < 2 ^ 31 by omega), (hF.2 a g).1]
          have hcz : c a ≠ 0 := by
            rcases hor with q | q
            · omega
            · exact q
          refine pk_le 20 (cd a) (fun g3 => cont ?_) (fun g3 => h0 (fun hs => ?_))
          · unfold bx_cap
            rw [if_neg hcz, if_pos g3]
            omega
          · have := hs.2.1 a g
            have e : bx_cap cd c a = 1 := by unfold bx_cap; rw [if_neg hcz, if_neg (by omega)]
            omega
      refine yb_entry hA8 hF.1 hx31 g (ym_coef hA8 hM g ?_)
      refine pk_le (rx_e (fun _ => 2) A x a) 0 (fun g2 => mid (Or.inl g2)) (fun g2 => ?_)
      by_cases hz : c a = 0
      · refine br_t ((ym_cz hM g).mpr hz) (h0 (fun hs => ?_))
        have := hs.2.1 a g
        have e : bx_cap cd c a = 0 := if_pos hz
        omega
      · exact br_f (fun q => hz ((ym_cz hM g).mp q)) (mid (Or.inr hz))
theorem ys_most_l (hA8 : A ≤ 8) (hfa : f_atoms = nI A) {x y : Nat} (hx : x < 2 ^ 31) (hy : y < 2 ^ 31) {post : Int32 → Prop} (h1 : bf_le (fun _ => 2) A x y → post 1) (h0 : ¬ bf_le (fun _ => 2) A x y → post 0) :
    ∀ n a, a ≤ A → A < n + a → (∀ b, b < a → rx_e (fun _ => 2) A x b ≤ rx_e (fun _ => 2) A y b) → wY_atMost_2 post (nI x) (nI y) f_bags f_elems f_maxBasis f_maxWord f_state f_cur f_n f_atoms f_pendLen b_pend b_base b_atomLen b_atomWord b_mult b_basis b_cLen b_cBase b_cWord n (nI a) := by
  intro n
  induction n with
  | zero => intro a h1 h2; omega
  | succ n ih =>
    intro a ha hn hle
    unfold wY_atMost_2
    refine pk_le A a (fun g => h1 (fun b hb => hle b (by omega))) (fun g => ?_) hfa rfl
    have ex := yb_e4 A x a
    have ey := yb_e4 A y a
    refine yb_entry hA8 hfa hx g (yb_entry hA8 hfa hy g ?_)
    refine pk_le (rx_e (fun _ => 2) A x a) (rx_e (fun _ => 2) A y a) (fun g2 => nm_r (nI_1 a) (ih (a + 1) (by omega) (by omega) (fun b hb => ?_))) (fun g2 => h0 (fun q => by have := q a g; omega))
    by_cases e : b = a
    · rw [e]; exact g2
    · exact hle b (by omega)
theorem ys_100 (hA8 : A ≤ 8) (hfa : f_atoms = nI A) {m x : Nat} (hm : m ≤ 12) (hx : x < 2 ^ 31) {bs : Nat → Nat} {ba : Nat → Int32} (hbs : ∀ k, k < m → ba k = nI (bs k) ∧ bs k < 2 ^ 31) {post : Int32 → SY → Prop} {J : Int32 → Int32 → (Nat → Int32) → (Nat → Int32) → (Nat → Int32) → (Nat → Int32) → (Nat → Int32) → (Nat → Int32) → (Nat → Int32) → (Nat → Int32) → (Nat → Int32) → Prop}
    (h1 : (∀ k, k < m → ¬ bf_le (fun _ => 2) A (bs k) x) → wY_solve_136 post J (nI m) (nI x) 1 f_bags f_elems f_maxBasis f_maxWord f_state f_cur f_n f_atoms f_pendLen b_pend b_base b_atomLen b_atomWord b_mult ba b_cLen b_cBase b_cWord)
    (h0 : (∃ k, k < m ∧ bf_le (fun _ => 2) A (bs k) x) → wY_solve_136 post J (nI m) (nI x) 0 f_bags f_elems f_maxBasis f_maxWord f_state f_cur f_n f_atoms f_pendLen b_pend b_base b_atomLen b_atomWord b_mult ba b_cLen b_cBase b_cWord) :
    ∀ n k, k ≤ m → m < n + k → (∀ j, j < k → ¬ bf_le (fun _ => 2) A (bs j) x) → wY_solve_100 post J (nI m) (nI x) f_bags f_elems f_maxBasis f_maxWord f_state f_cur f_n f_atoms f_pendLen b_pend b_base b_atomLen b_atomWord b_mult ba b_cLen b_cBase b_cWord n 1 (nI k) := by
  intro n
  induction n with
  | zero => intro k h1 h2; omega
  | succ n ih =>
    intro k hk hn hle
    unfold wY_solve_100
    refine pk_le m k (fun g => h1 (fun j hj => hle j (by omega))) (fun g => br_f (by decide) ⟨vp_in_nI (by omega) (by omega), ?_⟩)
    obtain ⟨b1, b2⟩ := hbs k g
    rw [nI_clamp (show k < 2 ^ 31 by omega), b1]
    refine ⟨A + 1, ys_most_l hA8 hfa b2 hx (fun hl => br_f (by decide) (nm_r (nI_1 k) ?_)) (fun hl => br_t rfl (nm_r (nI_1 k) (ih (k + 1) (by omega) (by omega) (fun j hj => ?_)))) (A + 1) 0 (Nat.zero_le _) (by omega) (fun b hb => absurd hb (Nat.not_lt_zero b))⟩
    · obtain ⟨n, rfl⟩ : ∃ i, n = i + 1 := ⟨n - 1, by omega⟩
      unfold wY_solve_100
      exact br_c (fun _ => h0 ⟨k, g, hl⟩) (fun _ => br_t rfl (h0 ⟨k, g, hl⟩))
    · by_cases e : j = k
      · rw [e]; exact hl
      · exact hle j (by omega)
theorem ys_76 (hfd : fd_ok A cd wd) (hF : yf_A A cd wd f_atoms b_base b_atomLen b_atomWord) (hM : yf_M A lt rt c b_mult) (hM12 : M ≤ 12) (hfM : f_maxBasis = nI M) {post : Int32 → SY → Prop}
    (h5 : di_more (fun _ => 2) A (bx_cap cd c) c M → ∀ ba, post (-5) (f_bags, f_elems, f_maxBasis, f_maxWord, f_state, f_cur, f_n, f_atoms, f_pendLen, b_pend, b_base, b_atomLen, b_atomWord, b_mult, ba, b_cLen, b_cBase, b_cWord))
    (h1 : ∀ N bs ba, N ≤ M → di_inc (fun _ => 2) A (bx_cap cd c) c bs N → di_all (fun _ => 2) A (bx_cap cd c) c bs N → (∀ k, k < N → ba k = nI (bs k)) → post (nI N) (f_bags, f_elems, f_maxBasis, f_maxWord, 1, f_cur, nI N, f_atoms, f_pendLen, b_pend, b_base, b_atomLen, b_atomWord, b_mult, ba, b_cLen, b_cBase, b_cWord)) :
    ∀ n t m bs ba, 0 < t → t ≤ 2 ^ (2 * A) → 2 ^ (2 * A) < n + t → m ≤ M → di_inc (fun _ => 2) A (bx_cap cd c) c bs m → (∀ k, k < m → ba k = nI (bs k) ∧ bs k < t) → (∀ x, x < t → di_min A (bx_cap cd c) c (rx_e (fun _ => 2) A x) → ∃ k, k < m ∧ bs k = x) →
      wY_solve_76 post f_bags f_elems f_maxBasis f_maxWord f_state f_cur f_n f_atoms f_pendLen n (nI m) (nI t) b_pend b_base b_atomLen b_atomWord b_mult ba b_cLen b_cBase b_cWord := by
  have hA8 := hfd.1
  have hf2 : rx_f (fun _ => 2) A 0 = 2 * A := yb_f2 A 0
  have hp : 2 ^ (2 * A) ≤ 2 ^ 16 := Nat.pow_le_pow_right (by omega) (by omega)
  have hsh : (1 : Int32) <<< ((2 * f_atoms) &&& 31) = nI (2 ^ (2 * A)) := by rw [hF.1, ib_2m]; exact ib_shl (by omega)
  have hcap : ∀ b, b < A → bx_cap cd c b < 2 ^ 2 := fun b _ => by have := bx_cap3 cd c b; omega
  intro n
  induction n with
  | zero => intro t m bs ba h1 h2 h3; omega
  | succ n ih =>
    intro t m bs ba ht0 ht hn hm hinc hba hall
    unfold wY_solve_76
    refine pk_le (2 ^ (2 * A)) t (fun g => ?_) (fun g => ?_) hsh rfl
    · have e : t = 2 ^ (2 * A) := by omega
      refine h1 m bs ba hm hinc (fun x hx hmin => hall x (by rw [e, ← hf2]; exact hx) hmin) (fun k hk => (hba k hk).1)
    · have htx : t < 2 ^ rx_f (fun _ => 2) A 0 := by rw [hf2]; exact g
      have nosol : ¬ di_min A (bx_cap cd c) c (rx_e (fun _ => 2) A t) → wY_solve_136 post (wY_solve_76 post f_bags f_elems f_maxBasis f_maxWord f_state f_cur f_n f_atoms f_pendLen n) (nI m) (nI t) 0 f_bags f_elems f_maxBasis f_maxWord f_state f_cur f_n f_atoms f_pendLen b_pend b_base b_atomLen b_atomWord b_mult ba b_cLen b_cBase b_cWord := by
        intro hno
        unfold wY_solve_136
        refine br_t rfl (nm_r (nI_1 t) (ih (t + 1) m bs ba (by omega) (by omega) (by omega) hm hinc (fun k hk => ⟨(hba k hk).1, by have := (hba k hk).2; omega⟩) (fun x hx hmin => ?_)))
        by_cases e : x = t
        · rw [e] at hmin; exact absurd hmin hno
        · exact hall x (by omega) hmin
      refine ⟨A + 1, ys_sol_l hfd hF hM htx (by omega) (fun hsol => ⟨m + 2, ?_⟩) (fun hsol => ⟨m + 2, ?_⟩) (A + 1) 0 (Nat.zero_le _) (by omega) (fun b hb => absurd hb (Nat.not_lt_zero b))⟩
      · refine ys_100 hA8 hF.1 (show m ≤ 12 by omega) (show t < 2 ^ 31 by omega) (fun k hk => ⟨(hba k hk).1, by have := (hba k hk).2; omega⟩) (fun hn => ?_) (fun ⟨k, hk, hl⟩ => nosol (di_scan_not htx hinc hk (hba k hk).2 hl)) (m + 2) 0 (Nat.zero_le _) (by omega) (fun j hj => absurd hj (Nat.not_lt_zero j))
        have hmin := di_scan_min hcap htx hall hsol hn
        have hne : ∀ k, k < m → bs k ≠ t := fun k hk => by have := (hba k hk).2; omega
        unfold wY_solve_136
        refine br_f (by decide) (pk_lt m M (fun hlt => ?_) (fun hge => ?_) rfl hfM)
        · rw [nI_clamp (show m < 2 ^ 31 by omega)]
          refine ⟨vp_in_nI (by omega) (by omega), nm_e (nm_r (nI_1 m) (nm_r (nI_1 t) ?_))⟩
          obtain ⟨bs', b1, b2⟩ : ∃ bs' : Nat → Nat, (∀ k, k < m → bs' k = bs k) ∧ bs' m = t := ⟨fun k => if k = m then t else bs k, fun k hk => if_neg (by omega), if_pos rfl⟩
          obtain ⟨i1, _⟩ := bf_ins hinc htx hmin (Nat.le_refl m) (fun k hk => (hba k hk).2) (fun k hk1 hk2 => by omega) b1 b2 (fun k hk1 hk2 => by omega)
          refine ih (t + 1) (m + 1) bs' _ (by omega) (by omega) (by omega) hlt i1 (fun k hk => ?_) (fun x hx hmin' => ?_)
          · by_cases e : k = m
            · rw [e, pk_us, b2]; exact ⟨rfl, by omega⟩
            · rw [pk_un e, b1 k (by omega)]
              exact ⟨(hba k (by omega)).1, by have := (hba k (by omega)).2; omega⟩
          · by_cases e : x = t
            · exact ⟨m, by omega, by rw [b2, e]⟩
            · obtain ⟨k, hk, ek⟩ := hall x (by omega) hmin'
              exact ⟨k, by omega, by rw [b1 k hk]; exact ek⟩
        · have : m = M := by omega
          subst this
          exact h5 (di_more_of hinc htx hmin hne) _
      · unfold wY_solve_100
        exact br_c (fun _ => nosol (fun z => hsol z.1)) (fun _ => br_t rfl (nosol (fun z => hsol z.1)))
theorem ys_25 (hfd : fd_ok A cd wd) (hF : yf_A A cd wd f_atoms b_base b_atomLen b_atomWord) (hM : yf_M A lt rt c b_mult) {post : Int32 → SY → Prop}
    (h4 : ((∀ a, a < A → lt a = 0) ∨ (∀ a, a < A → rt a = 0)) → post (-4) (f_bags, f_elems, f_maxBasis, f_maxWord, f_state, f_cur, f_n, f_atoms, f_pendLen, b_pend, b_base, b_atomLen, b_atomWord, b_mult, b_basis, b_cLen, b_cBase, b_cWord)) (h1 : (∃ a, a < A ∧ 0 < lt a) → (∃ a, a < A ∧ 0 < rt a) → ∃ n76 : Nat, wY_solve_76 post f_bags f_elems f_maxBasis f_maxWord f_state f_cur f_n f_atoms f_pendLen n76 0 1 b_pend b_base b_atomLen b_atomWord b_mult b_basis b_cLen b_cBase b_cWord) :
    ∀ n a, a ≤ A → A < n + a → wY_solve_25 post f_bags f_elems f_maxBasis f_maxWord f_state f_cur f_n f_atoms f_pendLen b_pend b_base b_atomLen b_atomWord b_mult b_basis b_cLen b_cBase b_cWord n (nI (di_lv lt a)) (nI (di_lv rt a)) (nI a) := by
  have hA8 := hfd.1
  have hb : ∀ (t : Nat → Nat), (∀ a, a < A → t a ≤ 3) → ∀ n, n ≤ A → di_lv t n ≤ 3 * n ∧ (di_lv t n = 0 ↔ ∀ a, a < n → t a = 0) := by
    intro t ht n
    induction n with
    | zero => intro _; exact ⟨Nat.le_refl _, fun _ a ha => absurd ha (Nat.not_lt_zero a), fun _ => rfl⟩
    | succ n ih =>
      intro hn
      obtain ⟨i1, i2⟩ := ih (by omega)
      have h3 := ht n (by omega)
      have e : di_lv t (n + 1) = di_lv t n + t n := rfl
      refine ⟨by omega, fun h a ha => ?_, fun h => ?_⟩
      · by_cases ea : a = n
        · rw [ea]; omega
        · exact i2.mp (by omega) a (by omega)
      · have := i2.mpr (fun a ha => h a (by omega))
        have := h n (by omega)
        omega
  have hl := hb lt (fun a ha => (hM a ha).2.2.1)
  have hr := hb rt (fun a ha => (hM a ha).2.2.2.1)
  have ex : ∀ (t : Nat → Nat), ¬ (∀ a, a < A → t a = 0) → ∃ a, a < A ∧ 0 < t a := by
    intro t h
    apply Classical.byContradiction
    intro hn
    exact h (fun a ha => by
      apply Classical.byContradiction
      intro hz
      exact hn ⟨a, ha, by omega⟩)
  intro n
  induction n with
  | zero => intro a h1 h2; omega
  | succ n ih =>
    intro a ha hn
    unfold wY_solve_25
    refine pk_le A a (fun g => ?_) (fun g => ?_) hF.1 rfl
    · have e : a = A := by omega
      subst e
      obtain ⟨l1, l2⟩ := hl a (Nat.le_refl _)
      obtain ⟨r1, r2⟩ := hr a (Nat.le_refl _)
      refine pk_eq (di_lv lt a) 0 (fun z => h4 (Or.inl (l2.mp z))) (fun z => pk_eq (di_lv rt a) 0 (fun z2 => h4 (Or.inr (r2.mp z2))) (fun z2 => h1 (ex lt (fun q => z (l2.mpr q))) (ex rt (fun q => z2 (r2.mpr q)))))
    · obtain ⟨m1, m2, _⟩ := hM a g
      rw [show (8 : Int32) + nI a = nI (8 + a) from nI_add 8 a, nI_clamp (show a < 2 ^ 31 by omega), nI_clamp (show 8 + a < 2 ^ 31 by omega), m1, m2]
      refine ⟨vp_in_nI (by omega) (by omega), nm_r (nI_add _ _) ⟨vp_in_nI (by omega) (by omega), nm_r (nI_add _ _) (nm_r (nI_1 a) (ih (a + 1) (by omega) (by omega)))⟩⟩
theorem ys_solve (hfd : fd_ok A cd wd) (hst : f_state = 0) (hpl : f_pendLen = 0) (hF : yf_A A cd wd f_atoms b_base b_atomLen b_atomWord) (hM : yf_M A lt rt c b_mult) (hM12 : M ≤ 12) (hfM : f_maxBasis = nI M) {post : Int32 → SY → Prop}
    (h4 : ((∀ a, a < A → lt a = 0) ∨ (∀ a, a < A → rt a = 0)) → post (-4) (f_bags, f_elems, f_maxBasis, f_maxWord, f_state, f_cur, f_n, f_atoms, f_pendLen, b_pend, b_base, b_atomLen, b_atomWord, b_mult, b_basis, b_cLen, b_cBase, b_cWord))
    (h5 : (∃ a, a < A ∧ 0 < lt a) → (∃ a, a < A ∧ 0 < rt a) → di_more (fun _ => 2) A (bx_cap cd c) c M → ∀ ba, post (-5) (f_bags, f_elems, f_maxBasis, f_maxWord, f_state, f_cur, f_n, f_atoms, f_pendLen, b_pend, b_base, b_atomLen, b_atomWord, b_mult, ba, b_cLen, b_cBase, b_cWord))
    (h1 : (∃ a, a < A ∧ 0 < lt a) → (∃ a, a < A ∧ 0 < rt a) → ∀ N bs ba, N ≤ M → di_inc (fun _ => 2) A (bx_cap cd c) c bs N → di_all (fun _ => 2) A (bx_cap cd c) c bs N → (∀ k, k < N → ba k = nI (bs k)) → post (nI N) (f_bags, f_elems, f_maxBasis, f_maxWord, 1, f_cur, nI N, f_atoms, f_pendLen, b_pend, b_base, b_atomLen, b_atomWord, b_mult, ba, b_cLen, b_cBase, b_cWord)) : wpY_solve post (f_bags, f_elems, f_maxBasis, f_maxWord, f_state, f_cur, f_n, f_atoms, f_pendLen, b_pend, b_base, b_atomLen, b_atomWord, b_mult, b_basis, b_cLen, b_cBase, b_cWord) := by
  have hpos := Nat.two_pow_pos (2 * A)
  refine br_t hst (br_t (by rw [hpl]; decide) ⟨A + 1, ys_25 hfd hF hM h4 (fun hl hr => ⟨2 ^ (2 * A) + 1, ?_⟩) (A + 1) 0 (Nat.zero_le _) (by omega)⟩)
  refine ys_76 hfd hF hM hM12 hfM (h5 hl hr) (h1 hl hr) (2 ^ (2 * A) + 1) 1 0 (fun _ => 0) b_basis (by omega) hpos (by omega) (Nat.zero_le _) ⟨fun k hk => absurd hk (Nat.not_lt_zero k), fun i j _ hj => absurd hj (Nat.not_lt_zero j)⟩ (fun k hk => absurd hk (Nat.not_lt_zero k)) (fun x hx hmin => ?_)
  obtain ⟨⟨b, hb, hp⟩, _⟩ := hmin.1
  have : x = 0 := by omega
  rw [this, bf_e0] at hp
  omega
end YS
end
section
/-! the relation -/
def re_c (lt rt : Nat → Nat) (a : Nat) : Int := (lt a : Int) - (rt a : Int)
def re_P (pw : List Nat) (fw fl fy : Int32) (pd : Nat → Int32) : Prop := wd_ok pw ∧ pw.length ≤ 3 ∧ fw = nI (wd_p pw) ∧ fl = nI pw.length ∧ fy = nI pw.length ∧ ∀ p, p < pw.length → pd p = nI (pw.getD p 0)
def re_A (A : Nat) (cd lt rt : Nat → Nat) (wd : Nat → List Nat) (fa : Int32) (ac aw le ri ba al bw mu : Nat → Int32) : Prop :=
  fd_ok A cd wd ∧ (∀ a, a < A → ac a = nI (cd a) ∧ aw a = nI (wd_p (wd a)) ∧ le a = nI (lt a) ∧ ri a = nI (rt a)) ∧ yf_A A cd wd fa ba al bw ∧ yf_M A lt rt (re_c lt rt) mu
def re_S (A el : Nat) (cd lt rt : Nat → Nat) (wd : Nat → List Nat) (st cm fa fb fl fe fk : Int32) (co cap sh bc cov ns nch ano : Nat → Int32) (tb : Nat → Int32) (tw : Nat → Int64) (fcur fn : Int32) (bas : Nat → Int32) : Prop :=
  ∃ (N : Nat) (B : Nat → Nat → Nat), so_X A cd wd (re_c lt rt) N B fa fb fl fe co cap sh bc cov ns nch ano ∧ so_Y A N B fn bas ∧ (fk = -1 ∨ fk = nI (mk_cnt A N B cd (fun a => (wd a, cd a)) (re_c lt rt) (2 ^ N))) ∧
    (st = 2 → ∃ (m : Nat) (T : Nat → ch_C), cm = nI m ∧ fcur = nI m ∧ m < 2 ^ N ∧ mk_adm A N B cd (fun a => (wd a, cd a)) (re_c lt rt) m ∧ ch_nf T ∧ (∀ s, ch_sv s T ↔ mk_slv A N B cd (fun a => (wd a, cd a)) m s) ∧ xt_All A N el cd B (fun a => (wd a, cd a)) (re_c lt rt) T m tb tw)
def re_C (bg el MB MW : Nat) (f1 f2 f3 f4 st : Int32) : Prop := f1 = nI bg ∧ 1 ≤ bg ∧ bg ≤ 5 ∧ f2 = nI el ∧ el ≤ 4 ∧ f3 = nI MB ∧ MB ≤ 12 ∧ f4 = nI MW ∧ MW ≤ 3 ∧ (st = 0 ∨ st = 1 ∨ st = 2 ∨ st = 3)
def re_R (f_bags f_elems f_maxBasis f_maxWord f_stage f_currentMask f_pendingWord f_pendingLength f_atoms f_liveSet f_elementSet f_basisSize f_knownCount f_trailSize : Int32) (a_atomCode a_atomWord a_leftTimes a_rightTimes a_coefficient a_fieldCap a_fieldShift a_basisCode a_cover a_nodeSymbol a_nodeChild a_atomNode a_parent a_shape a_least a_trailNode a_trailShape a_trailLeast a_thingBase : Nat → Int32) (a_thingWord : Nat → Int64) (f_cur f_n f_pendLen : Int32) (b_pend b_base b_atomLen b_atomWord b_mult b_basis : Nat → Int32) : Prop :=
  ∃ (bg el MB MW A : Nat) (cd lt rt : Nat → Nat) (wd : Nat → List Nat) (pw : List Nat) (L : List (Nat × Nat)), re_C bg el MB MW f_bags f_elems f_maxBasis f_maxWord f_stage ∧ re_P pw f_pendingWord f_pendingLength f_pendLen b_pend ∧
    re_A A cd lt rt wd f_atoms a_atomCode a_atomWord a_leftTimes a_rightTimes b_base b_atomLen b_atomWord b_mult ∧ xu_U L f_trailSize a_parent a_shape a_least a_trailNode a_trailShape a_trailLeast ∧
    (¬ f_stage = 0 → re_S A el cd lt rt wd f_stage f_currentMask f_atoms f_basisSize f_liveSet f_elementSet f_knownCount a_coefficient a_fieldCap a_fieldShift a_basisCode a_cover a_nodeSymbol a_nodeChild a_atomNode a_thingBase a_thingWord f_cur f_n b_basis)
def i_Rel (k : Nat) (u : SX) (v : SY) : Prop := match u with
  | (f_bags, f_elems, f_maxBasis, f_maxWord, f_stage, f_currentMask, f_pendingWord, f_pendingLength, f_atoms, f_boxSize, f_liveSet, f_elementSet, f_frontierEnd, f_basisSize, f_knownCount, f_trailSize, a_atomCode, a_atomWord, a_leftTimes, a_rightTimes, a_coefficient, a_fieldCap, a_fieldShift, a_seen, a_frontierCode, a_frontierDefect, a_basisCode, a_cover, a_choice, a_covered, a_trailMark, a_nodeSymbol, a_nodeChild, a_atomNode, a_parent, a_weight, a_shape, a_least, a_trailNode, a_trailShape, a_trailLeast, a_thingBase, a_thingWord) => match v with
    | (g_bags, g_elems, g_maxBasis, g_maxWord, f_state, f_cur, f_n, g_atoms, f_pendLen, b_pend, b_base, b_atomLen, b_atomWord, b_mult, b_basis, b_cLen, b_cBase, b_cWord) => g_bags = f_bags ∧ g_elems = f_elems ∧ g_maxBasis = f_maxBasis ∧ g_maxWord = f_maxWord ∧ f_state = f_stage ∧ g_atoms = f_atoms ∧ re_R f_bags f_elems f_maxBasis f_maxWord f_stage f_currentMask f_pendingWord f_pendingLength f_atoms f_liveSet f_elementSet f_basisSize f_knownCount f_trailSize a_atomCode a_atomWord a_leftTimes a_rightTimes a_coefficient a_fieldCap a_fieldShift a_basisCode a_cover a_nodeSymbol a_nodeChild a_atomNode a_parent a_shape a_least a_trailNode a_trailShape a_trailLeast a_thingBase a_thingWord f_cur f_n f_pendLen b_pend b_base b_atomLen b_atomWord b_mult b_basis
theorem i_up {k : Nat} {u : SX} {v : SY} (h : i_Rel k u v) : i_Rel (k + 5) u v := h
section RE
variable {f_bags f_elems f_maxBasis f_maxWord f_stage f_currentMask f_pendingWord f_pendingLength f_atoms f_boxSize f_liveSet f_elementSet f_frontierEnd f_basisSize f_knownCount f_trailSize : Int32} {a_atomCode a_atomWord a_leftTimes a_rightTimes a_coefficient a_fieldCap a_fieldShift a_seen a_frontierCode a_frontierDefect a_basisCode a_cover a_choice a_covered a_trailMark a_nodeSymbol a_nodeChild a_atomNode a_parent a_weight a_shape a_least a_trailNode a_trailShape a_trailLeast a_thingBase : Nat → Int32} {a_thingWord : Nat → Int64} {f_cur f_n f_pendLen : Int32} {b_pend b_base b_atomLen b_atomWord b_mult b_basis b_cLen b_cBase b_cWord : Nat → Int32}
theorem re_in {k : Nat} (h : re_R f_bags f_elems f_maxBasis f_maxWord f_stage f_currentMask f_pendingWord f_pendingLength f_atoms f_liveSet f_elementSet f_basisSize f_knownCount f_trailSize a_atomCode a_atomWord a_leftTimes a_rightTimes a_coefficient a_fieldCap a_fieldShift a_basisCode a_cover a_nodeSymbol a_nodeChild a_atomNode a_parent a_shape a_least a_trailNode a_trailShape a_trailLeast a_thingBase a_thingWord f_cur f_n f_pendLen b_pend b_base b_atomLen b_atomWord b_mult b_basis) : i_Rel k (f_bags, f_elems, f_maxBasis, f_maxWord, f_stage, f_currentMask, f_pendingWord, f_pendingLength, f_atoms, f_boxSize, f_liveSet, f_elementSet, f_frontierEnd, f_basisSize, f_knownCount, f_trailSize, a_atomCode, a_atomWord, a_leftTimes, a_rightTimes, a_coefficient, a_fieldCap, a_fieldShift, a_seen, a_frontierCode, a_frontierDefect, a_basisCode, a_cover, a_choice, a_covered, a_trailMark, a_nodeSymbol, a_nodeChild, a_atomNode, a_parent, a_weight, a_shape, a_least, a_trailNode, a_trailShape, a_trailLeast, a_thingBase, a_thingWord) (f_bags, f_elems, f_maxBasis, f_maxWord, f_stage, f_cur, f_n, f_atoms, f_pendLen, b_pend, b_base, b_atomLen, b_atomWord, b_mult, b_basis, b_cLen, b_cBase, b_cWord) := ⟨rfl, rfl, rfl, rfl, rfl, rfl, h⟩
end RE
theorem re_el {k : Nat} {P : SX → SY → Prop} (h : ∀ (f_bags f_elems f_maxBasis f_maxWord f_stage f_currentMask f_pendingWord f_pendingLength f_atoms f_boxSize f_liveSet f_elementSet f_frontierEnd f_basisSize f_knownCount f_trailSize : Int32) (a_atomCode a_atomWord a_leftTimes a_rightTimes a_coefficient a_fieldCap a_fieldShift a_seen a_frontierCode a_frontierDefect a_basisCode a_cover a_choice a_covered a_trailMark a_nodeSymbol a_nodeChild a_atomNode a_parent a_weight a_shape a_least a_trailNode a_trailShape a_trailLeast a_thingBase : Nat → Int32) (a_thingWord : Nat → Int64) (f_cur f_n f_pendLen : Int32) (b_pend b_base b_atomLen b_atomWord b_mult b_basis b_cLen b_cBase b_cWord : Nat → Int32), re_R f_bags f_elems f_maxBasis f_maxWord f_stage f_currentMask f_pendingWord f_pendingLength f_atoms f_liveSet f_elementSet f_basisSize f_knownCount f_trailSize a_atomCode a_atomWord a_leftTimes a_rightTimes a_coefficient a_fieldCap a_fieldShift a_basisCode a_cover a_nodeSymbol a_nodeChild a_atomNode a_parent a_shape a_least a_trailNode a_trailShape a_trailLeast a_thingBase a_thingWord f_cur f_n f_pendLen b_pend b_base b_atomLen b_atomWord b_mult b_basis → i_Rel (k + 5) (f_bags, f_elems, f_maxBasis, f_maxWord, f_stage, f_currentMask, f_pendingWord, f_pendingLength, f_atoms, f_boxSize, f_liveSet, f_elementSet, f_frontierEnd, f_basisSize, f_knownCount, f_trailSize, a_atomCode, a_atomWord, a_leftTimes, a_rightTimes, a_coefficient, a_fieldCap, a_fieldShift, a_seen, a_frontierCode, a_frontierDefect, a_basisCode, a_cover, a_choice, a_covered, a_trailMark, a_nodeSymbol, a_nodeChild, a_atomNode, a_parent, a_weight, a_shape, a_least, a_trailNode, a_trailShape, a_trailLeast, a_thingBase, a_thingWord) (f_bags, f_elems, f_maxBasis, f_maxWord, f_stage, f_cur, f_n, f_atoms, f_pendLen, b_pend, b_base, b_atomLen, b_atomWord, b_mult, b_basis, b_cLen, b_cBase, b_cWord) → P (f_bags, f_elems, f_maxBasis, f_maxWord, f_stage, f_currentMask, f_pendingWord, f_pendingLength, f_atoms, f_boxSize, f_liveSet, f_elementSet, f_frontierEnd, f_basisSize, f_knownCount, f_trailSize, a_atomCode, a_atomWord, a_leftTimes, a_rightTimes, a_coefficient, a_fieldCap, a_fieldShift, a_seen, a_frontierCode, a_frontierDefect, a_basisCode, a_cover, a_choice, a_covered, a_trailMark, a_nodeSymbol, a_nodeChild, a_atomNode, a_parent, a_weight, a_shape, a_least, a_trailNode, a_trailShape, a_trailLeast, a_thingBase, a_thingWord) (f_bags, f_elems, f_maxBasis, f_maxWord, f_stage, f_cur, f_n, f_atoms, f_pendLen, b_pend, b_base, b_atomLen, b_atomWord, b_mult, b_basis, b_cLen, b_cBase, b_cWord)) {u : SX} {v : SY} (I : i_Rel k u v) : P u v := by
  obtain ⟨f_bags, f_elems, f_maxBasis, f_maxWord, f_stage, f_currentMask, f_pendingWord, f_pendingLength, f_atoms, f_boxSize, f_liveSet, f_elementSet, f_frontierEnd, f_basisSize, f_knownCount, f_trailSize, a_atomCode, a_atomWord, a_leftTimes, a_rightTimes, a_coefficient, a_fieldCap, a_fieldShift, a_seen, a_frontierCode, a_frontierDefect, a_basisCode, a_cover, a_choice, a_covered, a_trailMark, a_nodeSymbol, a_nodeChild, a_atomNode, a_parent, a_weight, a_shape, a_least, a_trailNode, a_trailShape, a_trailLeast, a_thingBase, a_thingWord⟩ := u
  obtain ⟨g_bags, g_elems, g_maxBasis, g_maxWord, f_state, f_cur, f_n, g_atoms, f_pendLen, b_pend, b_base, b_atomLen, b_atomWord, b_mult, b_basis, b_cLen, b_cBase, b_cWord⟩ := v
  have I' := I
  obtain ⟨e1, e2, e3, e4, e5, e6, hR⟩ := I'
  subst e1 e2 e3 e4 e5 e6
  exact h _ _ _ _ _ _ _ _ _ _ _ _ _ _ _ _ _ _ _ _ _ _ _ _ _ _ _ _ _ _ _ _ _ _ _ _ _ _ _ _ _ _ _ _ _ _ _ _ _ _ _ _ _ _ _ hR I
end
section
/-! the simple calls -/
theorem re_dig {w : List Nat} (hw : wd_ok w) (hl : w.length ≤ 3) {j : Nat} (hj : j ≤ 2) : (nI (wd_p w) >>> ((2 * nI j) &&& 31)) &&& 3 = nI (w.getD j 0) := by
  have h64 := wd_64 hw hl
  rw [ib_2m, ib_shr (by omega) (by omega), ib_and3 (Nat.lt_of_le_of_lt (Nat.div_le_self _ _) (by omega)), Nat.pow_mul, ← wd_digit j w hw]
theorem re_getD0 {w : List Nat} {j : Nat} (h : w.length ≤ j) : w.getD j 0 = 0 := by
  rw [List.getD_eq_getElem?_getD, List.getElem?_eq_none h]
  rfl
theorem i_vc_phase {k : Nat} {u : SX} {v : SY} (I : i_Rel k u v) (hk : k + 5 ≤ 2564) : wpX_phase (fun r => wpY_phase (fun r' => r' = r ∧ i_Rel (k + 5) u v) v) u := by
  refine re_el (P := fun u v => wpX_phase (fun r => wpY_phase (fun r' => r' = r ∧ i_Rel (k + 5) u v) v) u) ?_ I
  intro f_bags f_elems f_maxBasis f_maxWord f_stage f_currentMask f_pendingWord f_pendingLength f_atoms f_boxSize f_liveSet f_elementSet f_frontierEnd f_basisSize f_knownCount f_trailSize a_atomCode a_atomWord a_leftTimes a_rightTimes a_coefficient a_fieldCap a_fieldShift a_seen a_frontierCode a_frontierDefect a_basisCode a_cover a_choice a_covered a_trailMark a_nodeSymbol a_nodeChild a_atomNode a_parent a_weight a_shape a_least a_trailNode a_trailShape a_trailLeast a_thingBase a_thingWord f_cur f_n f_pendLen b_pend b_base b_atomLen b_atomWord b_mult b_basis b_cLen b_cBase b_cWord hR J
  exact ⟨rfl, J⟩
theorem i_vc_mask {k : Nat} {u : SX} {v : SY} (I : i_Rel k u v) (hk : k + 5 ≤ 2564) : wpX_mask (fun r => wpY_mask (fun r' => r' = r ∧ i_Rel (k + 5) u v) v) u := by
  refine re_el (P := fun u v => wpX_mask (fun r => wpY_mask (fun r' => r' = r ∧ i_Rel (k + 5) u v) v) u) ?_ I
  intro f_bags f_elems f_maxBasis f_maxWord f_stage f_currentMask f_pendingWord f_pendingLength f_atoms f_boxSize f_liveSet f_elementSet f_frontierEnd f_basisSize f_knownCount f_trailSize a_atomCode a_atomWord a_leftTimes a_rightTimes a_coefficient a_fieldCap a_fieldShift a_seen a_frontierCode a_frontierDefect a_basisCode a_cover a_choice a_covered a_trailMark a_nodeSymbol a_nodeChild a_atomNode a_parent a_weight a_shape a_least a_trailNode a_trailShape a_trailLeast a_thingBase a_thingWord f_cur f_n f_pendLen b_pend b_base b_atomLen b_atomWord b_mult b_basis b_cLen b_cBase b_cWord hR J
  refine br_c (fun h0 => br_t h0 ⟨rfl, J⟩) (fun h0 => br_c (fun h2 => br_f h0 (br_t h2 ⟨?_, J⟩)) (fun h2 => br_f h0 (br_f h2 ⟨rfl, J⟩)))
  obtain ⟨bg, el, MB, MW, A, cd, lt, rt, wd, pw, L, hC, hP, hA, hU, hS⟩ := hR
  obtain ⟨N, B, hX, hY, hK, hT⟩ := hS h0
  obtain ⟨m, T, e1, e2, _⟩ := hT h2
  rw [e1, e2]
theorem i_vc_atomCount {k : Nat} {u : SX} {v : SY} (I : i_Rel k u v) (hk : k + 5 ≤ 2564) : wpX_atomCount (fun r => wpY_atomCount (fun r' => r' = r ∧ i_Rel (k + 5) u v) v) u := by
  refine re_el (P := fun u v => wpX_atomCount (fun r => wpY_atomCount (fun r' => r' = r ∧ i_Rel (k + 5) u v) v) u) ?_ I
  intro f_bags f_elems f_maxBasis f_maxWord f_stage f_currentMask f_pendingWord f_pendingLength f_atoms f_boxSize f_liveSet f_elementSet f_frontierEnd f_basisSize f_knownCount f_trailSize a_atomCode a_atomWord a_leftTimes a_rightTimes a_coefficient a_fieldCap a_fieldShift a_seen a_frontierCode a_frontierDefect a_basisCode a_cover a_choice a_covered a_trailMark a_nodeSymbol a_nodeChild a_atomNode a_parent a_weight a_shape a_least a_trailNode a_trailShape a_trailLeast a_thingBase a_thingWord f_cur f_n f_pendLen b_pend b_base b_atomLen b_atomWord b_mult b_basis b_cLen b_cBase b_cWord hR J
  exact ⟨rfl, J⟩
theorem i_vc_basisCount {k : Nat} {u : SX} {v : SY} (I : i_Rel k u v) (hk : k + 5 ≤ 2564) : wpX_basisCount (fun r => wpY_basisCount (fun r' => r' = r ∧ i_Rel (k + 5) u v) v) u := by
  refine re_el (P := fun u v => wpX_basisCount (fun r => wpY_basisCount (fun r' => r' = r ∧ i_Rel (k + 5) u v) v) u) ?_ I
  intro f_bags f_elems f_maxBasis f_maxWord f_stage f_currentMask f_pendingWord f_pendingLength f_atoms f_boxSize f_liveSet f_elementSet f_frontierEnd f_basisSize f_knownCount f_trailSize a_atomCode a_atomWord a_leftTimes a_rightTimes a_coefficient a_fieldCap a_fieldShift a_seen a_frontierCode a_frontierDefect a_basisCode a_cover a_choice a_covered a_trailMark a_nodeSymbol a_nodeChild a_atomNode a_parent a_weight a_shape a_least a_trailNode a_trailShape a_trailLeast a_thingBase a_thingWord f_cur f_n f_pendLen b_pend b_base b_atomLen b_atomWord b_mult b_basis b_cLen b_cBase b_cWord hR J
  refine br_c (fun h0 => br_t h0 ⟨rfl, J⟩) (fun h0 => br_f h0 ⟨?_, J⟩)
  obtain ⟨bg, el, MB, MW, A, cd, lt, rt, wd, pw, L, hC, hP, hA, hU, hS⟩ := hR
  obtain ⟨N, B, hX, hY, hK, hT⟩ := hS h0
  obtain ⟨cv, LV, EL, bs, x1, x2, x3⟩ := hX
  rw [x2.2.1, hY.2.1]
theorem i_vc_pendingSymbol {k : Nat} {u : SX} {v : SY} (I : i_Rel k u v) (hk : k + 5 ≤ 2564) (v1 : Int32) : wpX_pendingSymbol (fun r => wpY_pendingSymbol (fun r' => r' = r ∧ i_Rel (k + 5) u v) v v1) u v1 := by
  refine re_el (P := fun u v => wpX_pendingSymbol (fun r => wpY_pendingSymbol (fun r' => r' = r ∧ i_Rel (k + 5) u v) v v1) u v1) ?_ I
  intro f_bags f_elems f_maxBasis f_maxWord f_stage f_currentMask f_pendingWord f_pendingLength f_atoms f_boxSize f_liveSet f_elementSet f_frontierEnd f_basisSize f_knownCount f_trailSize a_atomCode a_atomWord a_leftTimes a_rightTimes a_coefficient a_fieldCap a_fieldShift a_seen a_frontierCode a_frontierDefect a_basisCode a_cover a_choice a_covered a_trailMark a_nodeSymbol a_nodeChild a_atomNode a_parent a_weight a_shape a_least a_trailNode a_trailShape a_trailLeast a_thingBase a_thingWord f_cur f_n f_pendLen b_pend b_base b_atomLen b_atomWord b_mult b_basis b_cLen b_cBase b_cWord hR J
  obtain ⟨bg, el, MB, MW, A, cd, lt, rt, wd, pw, L, hC, hP, hA, hU, hS⟩ := hR
  obtain ⟨p1, p2, p3, p4, p5, p6⟩ := hP
  refine br_c (fun h0 => br_t h0 ⟨rfl, J⟩) (fun h0 => ?_)
  obtain ⟨j, hj, rfl⟩ := nI_of h0
  refine pk_le j 2 (fun g => br_f h0 (br_t (nI_le (b := 2) g (by omega)) ?_)) (fun g => br_f h0 (br_f (nI_ge (a := 2) g hj) ⟨rfl, J⟩))
  have e : (f_pendingWord >>> ((2 * nI j) &&& 31)) &&& 3 = nI (pw.getD j 0) := by rw [p3]; exact re_dig p1 p2 g
  rw [e]
  refine pk_lt j pw.length (fun g2 => ⟨vp_in_nI (by omega) (by omega), ?_⟩) (fun g2 => ⟨?_, J⟩) rfl p5
  · rw [nI_clamp hj]
    exact ⟨p6 j g2, J⟩
  · rw [re_getD0 g2]; rfl
theorem i_vc_atomBase {k : Nat} {u : SX} {v : SY} (I : i_Rel k u v) (hk : k + 5 ≤ 2564) (v1 : Int32) : wpX_atomBase (fun r => wpY_atomBase (fun r' => r' = r ∧ i_Rel (k + 5) u v) v v1) u v1 := by
  refine re_el (P := fun u v => wpX_atomBase (fun r => wpY_atomBase (fun r' => r' = r ∧ i_Rel (k + 5) u v) v v1) u v1) ?_ I
  intro f_bags f_elems f_maxBasis f_maxWord f_stage f_currentMask f_pendingWord f_pendingLength f_atoms f_boxSize f_liveSet f_elementSet f_frontierEnd f_basisSize f_knownCount f_trailSize a_atomCode a_atomWord a_leftTimes a_rightTimes a_coefficient a_fieldCap a_fieldShift a_seen a_frontierCode a_frontierDefect a_basisCode a_cover a_choice a_covered a_trailMark a_nodeSymbol a_nodeChild a_atomNode a_parent a_weight a_shape a_least a_trailNode a_trailShape a_trailLeast a_thingBase a_thingWord f_cur f_n f_pendLen b_pend b_base b_atomLen b_atomWord b_mult b_basis b_cLen b_cBase b_cWord hR J
  obtain ⟨bg, el, MB, MW, A, cd, lt, rt, wd, pw, L, hC, hP, hA, hU, hS⟩ := hR
  obtain ⟨a1, a2, a3, a4⟩ := hA
  have hA8 := a1.1
  refine br_c (fun h0 => br_t h0 ⟨rfl, J⟩) (fun h0 => ?_)
  obtain ⟨j, hj, rfl⟩ := nI_of h0
  refine pk_lt j A (fun g => ?_) (fun g => br_f h0 (br_f (by rw [a3.1]; exact nI_nlt g hj) ⟨rfl, J⟩)) rfl a3.1
  have ij : vp_in (nI j) 8 := vp_in_nI (by omega) (by omega)
  refine ⟨ij, br_f h0 (br_t (by rw [a3.1]; exact nI_lt g (by omega)) ⟨ij, ?_, J⟩)⟩
  rw [nI_clamp hj, (a3.2 j g).1, (a2 j g).1]
theorem i_vc_atomSymbol {k : Nat} {u : SX} {v : SY} (I : i_Rel k u v) (hk : k + 5 ≤ 2564) (v1 : Int32) (v2 : Int32) : wpX_atomSymbol (fun r => wpY_atomSymbol (fun r' => r' = r ∧ i_Rel (k + 5) u v) v v1 v2) u v1 v2 := by
  refine re_el (P := fun u v => wpX_atomSymbol (fun r => wpY_atomSymbol (fun r' => r' = r ∧ i_Rel (k + 5) u v) v v1 v2) u v1 v2) ?_ I
  intro f_bags f_elems f_maxBasis f_maxWord f_stage f_currentMask f_pendingWord f_pendingLength f_atoms f_boxSize f_liveSet f_elementSet f_frontierEnd f_basisSize f_knownCount f_trailSize a_atomCode a_atomWord a_leftTimes a_rightTimes a_coefficient a_fieldCap a_fieldShift a_seen a_frontierCode a_frontierDefect a_basisCode a_cover a_choice a_covered a_trailMark a_nodeSymbol a_nodeChild a_atomNode a_parent a_weight a_shape a_least a_trailNode a_trailShape a_trailLeast a_thingBase a_thingWord f_cur f_n f_pendLen b_pend b_base b_atomLen b_atomWord b_mult b_basis b_cLen b_cBase b_cWord hR J
  obtain ⟨bg, el, MB, MW, A, cd, lt, rt, wd, pw, L, hC, hP, hA, hU, hS⟩ := hR
  obtain ⟨a1, a2, a3, a4⟩ := hA
  have hA8 := a1.1
  refine br_c (fun h0 => br_t h0 ⟨rfl, J⟩) (fun h0 => ?_)
  obtain ⟨j, hj, rfl⟩ := nI_of h0
  refine pk_lt j A (fun g => ?_) (fun g => br_f h0 (br_f (by rw [a3.1]; exact nI_nlt g hj) ⟨rfl, J⟩)) rfl a3.1
  have ij : vp_in (nI j) 8 := vp_in_nI (by omega) (by omega)
  have lt' : nI j < f_atoms := by rw [a3.1]; exact nI_lt g (by omega)
  obtain ⟨d1, d2, d3, d4, d5⟩ := a1.2.1 j g
  refine br_c (fun h2 => br_f h0 (br_t lt' (br_t h2 ⟨rfl, J⟩))) (fun h2 => ?_)
  obtain ⟨p, hp, rfl⟩ := nI_of h2
  refine pk_le p 2 (fun g2 => ⟨ij, br_f h0 (br_t lt' (br_f h2 (br_t (nI_le (b := 2) g2 (by omega)) ⟨ij, ?_⟩)))⟩) (fun g2 => br_f h0 (br_t lt' (br_f h2 (br_f (nI_ge (a := 2) g2 hp) ⟨rfl, J⟩))))
  rw [nI_clamp hj, (a2 j g).2.1, re_dig d5 d4 g2]
  refine pk_lt p (wd j).length (fun g3 => ?_) (fun g3 => ⟨?_, J⟩) rfl (a3.2 j g).2.1
  · have e1 : nI j * 3 + nI p = nI (j * 3 + p) := by
      rw [show nI j * 3 = nI (j * 3) from pk_mul j 3, nI_add]
    rw [e1, nI_clamp (show j * 3 + p < 2 ^ 31 by omega)]
    exact ⟨vp_in_nI (by omega) (by omega), (a3.2 j g).2.2 p g3, J⟩
  · rw [re_getD0 g3]; rfl
theorem i_vc_multiplicity {k : Nat} {u : SX} {v : SY} (I : i_Rel k u v) (hk : k + 5 ≤ 2564) (v1 : Int32) (v2 : Int32) : wpX_multiplicity (fun r => wpY_multiplicity (fun r' => r' = r ∧ i_Rel (k + 5) u v) v v1 v2) u v1 v2 := by
  refine re_el (P := fun u v => wpX_multiplicity (fun r => wpY_multiplicity (fun r' => r' = r ∧ i_Rel (k + 5) u v) v v1 v2) u v1 v2) ?_ I
  intro f_bags f_elems f_maxBasis f_maxWord f_stage f_currentMask f_pendingWord f_pendingLength f_atoms f_boxSize f_liveSet f_elementSet f_frontierEnd f_basisSize f_knownCount f_trailSize a_atomCode a_atomWord a_leftTimes a_rightTimes a_coefficient a_fieldCap a_fieldShift a_seen a_frontierCode a_frontierDefect a_basisCode a_cover a_choice a_covered a_trailMark a_nodeSymbol a_nodeChild a_atomNode a_parent a_weight a_shape a_least a_trailNode a_trailShape a_trailLeast a_thingBase a_thingWord f_cur f_n f_pendLen b_pend b_base b_atomLen b_atomWord b_mult b_basis b_cLen b_cBase b_cWord hR J
  obtain ⟨bg, el, MB, MW, A, cd, lt, rt, wd, pw, L, hC, hP, hA, hU, hS⟩ := hR
  obtain ⟨a1, a2, a3, a4⟩ := hA
  have hA8 := a1.1
  by_cases s0 : v1 = 0
  · subst s0
    refine br_t rfl (br_c (fun h0 => br_t rfl (br_t h0 ⟨rfl, J⟩)) (fun h0 => ?_))
    obtain ⟨j, hj, rfl⟩ := nI_of h0
    refine pk_lt j A (fun g => br_t rfl ⟨vp_in_nI (by omega) (by omega), br_t rfl (br_f h0 (br_t (by rw [a3.1]; exact nI_lt g (by omega)) ?_))⟩) (fun g => br_t rfl (br_f h0 (br_f (by rw [a3.1]; exact nI_nlt g hj) ⟨rfl, J⟩))) rfl a3.1
    have e : (0 : Int32) * 8 + nI j = nI j := by rw [show (0 : Int32) * 8 = 0 from rfl, Int32.zero_add]
    rw [e, nI_clamp hj]
    exact ⟨vp_in_nI (by omega) (by omega), by rw [(a4 j g).1, (a2 j g).2.2.1], J⟩
  · by_cases s1 : v1 = 1
    · subst s1
      refine br_f s0 (br_t rfl (br_c (fun h0 => br_f s0 (br_t rfl (br_t h0 ⟨rfl, J⟩))) (fun h0 => ?_)))
      obtain ⟨j, hj, rfl⟩ := nI_of h0
      refine pk_lt j A (fun g => br_f s0 ⟨vp_in_nI (by omega) (by omega), br_f s0 (br_t rfl (br_f h0 (br_t (by rw [a3.1]; exact nI_lt g (by omega)) ?_)))⟩) (fun g => br_f s0 (br_t rfl (br_f h0 (br_f (by rw [a3.1]; exact nI_nlt g hj) ⟨rfl, J⟩)))) rfl a3.1
      have e : (1 : Int32) * 8 + nI j = nI (8 + j) := nI_add 8 j
      rw [e, nI_clamp hj, nI_clamp (show 8 + j < 2 ^ 31 by omega)]
      exact ⟨vp_in_nI (by omega) (by omega), by rw [(a4 j g).2.1, (a2 j g).2.2.2], J⟩
    · exact br_f s0 (br_f s1 (br_f s0 (br_f s1 ⟨rfl, J⟩)))
theorem i_vc_basisEntry {k : Nat} {u : SX} {v : SY} (I : i_Rel k u v) (hk : k + 5 ≤ 2564) (v1 : Int32) (v2 : Int32) : wpX_basisEntry (fun r => wpY_basisEntry (fun r' => r' = r ∧ i_Rel (k + 5) u v) v v1 v2) u v1 v2 := by
  refine re_el (P := fun u v => wpX_basisEntry (fun r => wpY_basisEntry (fun r' => r' = r ∧ i_Rel (k + 5) u v) v v1 v2) u v1 v2) ?_ I
  intro f_bags f_elems f_maxBasis f_maxWord f_stage f_currentMask f_pendingWord f_pendingLength f_atoms f_boxSize f_liveSet f_elementSet f_frontierEnd f_basisSize f_knownCount f_trailSize a_atomCode a_atomWord a_leftTimes a_rightTimes a_coefficient a_fieldCap a_fieldShift a_seen a_frontierCode a_frontierDefect a_basisCode a_cover a_choice a_covered a_trailMark a_nodeSymbol a_nodeChild a_atomNode a_parent a_weight a_shape a_least a_trailNode a_trailShape a_trailLeast a_thingBase a_thingWord f_cur f_n f_pendLen b_pend b_base b_atomLen b_atomWord b_mult b_basis b_cLen b_cBase b_cWord hR J
  obtain ⟨bg, el, MB, MW, A, cd, lt, rt, wd, pw, L, hC, hP, hA, hU, hS⟩ := hR
  obtain ⟨a1, a2, a3, a4⟩ := hA
  have hA8 := a1.1
  refine br_c (fun s0 => br_t s0 ⟨rfl, J⟩) (fun s0 => ?_)
  obtain ⟨N, B, hX, hY, hK, hT⟩ := hS s0
  obtain ⟨cv, LV, EL, bs, x1, x2, x3, x4, x5, x6⟩ := hX
  have hN := hY.1
  refine br_c (fun h0 => br_f s0 (br_t h0 ⟨rfl, J⟩)) (fun h0 => ?_)
  obtain ⟨j, hj, rfl⟩ := nI_of h0
  refine pk_lt j N (fun g => ?_) (fun g => br_f s0 (br_f h0 (br_f (by rw [hY.2.1]; exact nI_nlt g hj) ⟨rfl, J⟩))) rfl x2.2.1
  have ltN : nI j < f_n := by rw [hY.2.1]; exact nI_lt g (by omega)
  refine br_c (fun h2 => br_f s0 (br_f h0 (br_t ltN (br_t h2 ⟨rfl, J⟩)))) (fun h2 => ?_)
  obtain ⟨a, ha, rfl⟩ := nI_of h2
  refine pk_lt a A (fun g2 => ?_) (fun g2 => br_f s0 (br_f h0 (br_t ltN (br_f h2 (br_f (by rw [a3.1]; exact nI_nlt g2 ha) ⟨rfl, J⟩))))) rfl a3.1
  have ij : vp_in (nI j) 12 := vp_in_nI (by omega) (by omega)
  obtain ⟨b1, b2, b3⟩ := x5 j g
  rw [nI_clamp hj, b1]
  refine ⟨ij, xb_entry hA8 x3 x4 b2 g2 (br_f s0 (br_f h0 (br_t ltN (br_f h2 (br_t (by rw [a3.1]; exact nI_lt g2 (by omega)) ⟨ij, ?_⟩)))))⟩
  rw [nI_clamp hj]
  refine yb_basis hA8 a3.1 hY g g2 ⟨?_, J⟩
  rw [b3 a g2]
theorem i_vc_clearWord {k : Nat} {u : SX} {v : SY} (I : i_Rel k u v) (hk : k + 5 ≤ 2564) : wpX_clearWord (fun r u' => wpY_clearWord (fun r' v' => r' = r ∧ i_Rel (k + 5) u' v') v) u := by
  refine re_el (P := fun u v => wpX_clearWord (fun r u' => wpY_clearWord (fun r' v' => r' = r ∧ i_Rel (k + 5) u' v') v) u) ?_ I
  intro f_bags f_elems f_maxBasis f_maxWord f_stage f_currentMask f_pendingWord f_pendingLength f_atoms f_boxSize f_liveSet f_elementSet f_frontierEnd f_basisSize f_knownCount f_trailSize a_atomCode a_atomWord a_leftTimes a_rightTimes a_coefficient a_fieldCap a_fieldShift a_seen a_frontierCode a_frontierDefect a_basisCode a_cover a_choice a_covered a_trailMark a_nodeSymbol a_nodeChild a_atomNode a_parent a_weight a_shape a_least a_trailNode a_trailShape a_trailLeast a_thingBase a_thingWord f_cur f_n f_pendLen b_pend b_base b_atomLen b_atomWord b_mult b_basis b_cLen b_cBase b_cWord hR J
  refine br_c (fun h0 => br_t h0 ⟨rfl, re_in ?_⟩) (fun h0 => br_f h0 ⟨rfl, J⟩)
  obtain ⟨bg, el, MB, MW, A, cd, lt, rt, wd, pw, L, hC, hP, hA, hU, hS⟩ := hR
  exact ⟨bg, el, MB, MW, A, cd, lt, rt, wd, [], L, hC, ⟨wd_ok_nil, Nat.zero_le _, rfl, rfl, rfl, fun p hp => absurd hp (Nat.not_lt_zero p)⟩, hA, hU, hS⟩
theorem i_vc_reopen {k : Nat} {u : SX} {v : SY} (I : i_Rel k u v) (hk : k + 5 ≤ 2564) : wpX_reopen (fun r u' => wpY_reopen (fun r' v' => r' = r ∧ i_Rel (k + 5) u' v') v) u := by
  refine re_el (P := fun u v => wpX_reopen (fun r u' => wpY_reopen (fun r' v' => r' = r ∧ i_Rel (k + 5) u' v') v) u) ?_ I
  intro f_bags f_elems f_maxBasis f_maxWord f_stage f_currentMask f_pendingWord f_pendingLength f_atoms f_boxSize f_liveSet f_elementSet f_frontierEnd f_basisSize f_knownCount f_trailSize a_atomCode a_atomWord a_leftTimes a_rightTimes a_coefficient a_fieldCap a_fieldShift a_seen a_frontierCode a_frontierDefect a_basisCode a_cover a_choice a_covered a_trailMark a_nodeSymbol a_nodeChild a_atomNode a_parent a_weight a_shape a_least a_trailNode a_trailShape a_trailLeast a_thingBase a_thingWord f_cur f_n f_pendLen b_pend b_base b_atomLen b_atomWord b_mult b_basis b_cLen b_cBase b_cWord hR J
  refine br_c (fun h0 => br_t h0 ⟨rfl, J⟩) (fun h0 => br_f h0 ⟨rfl, re_in ?_⟩)
  obtain ⟨bg, el, MB, MW, A, cd, lt, rt, wd, pw, L, hC, hP, hA, hU, hS⟩ := hR
  obtain ⟨c1, c2, c3, c4, c5, c6, c7, c8, c9, c10⟩ := hC
  exact ⟨bg, el, MB, MW, A, cd, lt, rt, wd, [], L, ⟨c1, c2, c3, c4, c5, c6, c7, c8, c9, Or.inl rfl⟩, ⟨wd_ok_nil, Nat.zero_le _, rfl, rfl, rfl, fun p hp => absurd hp (Nat.not_lt_zero p)⟩, hA, hU, fun z => absurd rfl z⟩
theorem i_vc_reset {k : Nat} {u : SX} {v : SY} (I : i_Rel k u v) (hk : k + 5 ≤ 2564) : wpX_reset (fun u' => wpY_reset (fun v' => i_Rel (k + 5) u' v') v) u := by
  refine re_el (P := fun u v => wpX_reset (fun u' => wpY_reset (fun v' => i_Rel (k + 5) u' v') v) u) ?_ I
  intro f_bags f_elems f_maxBasis f_maxWord f_stage f_currentMask f_pendingWord f_pendingLength f_atoms f_boxSize f_liveSet f_elementSet f_frontierEnd f_basisSize f_knownCount f_trailSize a_atomCode a_atomWord a_leftTimes a_rightTimes a_coefficient a_fieldCap a_fieldShift a_seen a_frontierCode a_frontierDefect a_basisCode a_cover a_choice a_covered a_trailMark a_nodeSymbol a_nodeChild a_atomNode a_parent a_weight a_shape a_least a_trailNode a_trailShape a_trailLeast a_thingBase a_thingWord f_cur f_n f_pendLen b_pend b_base b_atomLen b_atomWord b_mult b_basis b_cLen b_cBase b_cWord hR J
  show i_Rel (k + 5) (f_bags, f_elems, f_maxBasis, f_maxWord, 0, 0, 0, 0, 0, f_boxSize, f_liveSet, f_elementSet, f_frontierEnd, 0, -1, f_trailSize, a_atomCode, a_atomWord, a_leftTimes, a_rightTimes, a_coefficient, a_fieldCap, a_fieldShift, a_seen, a_frontierCode, a_frontierDefect, a_basisCode, a_cover, a_choice, a_covered, a_trailMark, a_nodeSymbol, a_nodeChild, a_atomNode, a_parent, a_weight, a_shape, a_least, a_trailNode, a_trailShape, a_trailLeast, a_thingBase, a_thingWord) (f_bags, f_elems, f_maxBasis, f_maxWord, 0, 0, 0, 0, 0, b_pend, b_base, b_atomLen, b_atomWord, b_mult, b_basis, b_cLen, b_cBase, b_cWord)
  refine re_in ?_
  obtain ⟨bg, el, MB, MW, A, cd, lt, rt, wd, pw, L, hC, hP, hA, hU, hS⟩ := hR
  obtain ⟨c1, c2, c3, c4, c5, c6, c7, c8, c9, c10⟩ := hC
  exact ⟨bg, el, MB, MW, 0, fun _ => 0, fun _ => 0, fun _ => 0, fun _ => [], [], L, ⟨c1, c2, c3, c4, c5, c6, c7, c8, c9, Or.inl rfl⟩, ⟨wd_ok_nil, Nat.zero_le _, rfl, rfl, rfl, fun p hp => absurd hp (Nat.not_lt_zero p)⟩, ⟨⟨Nat.zero_le _, fun a ha => absurd ha (Nat.not_lt_zero a), fun a b ha => absurd ha (Nat.not_lt_zero a)⟩, fun a ha => absurd ha (Nat.not_lt_zero a), ⟨rfl, fun a ha => absurd ha (Nat.not_lt_zero a)⟩, fun a ha => absurd ha (Nat.not_lt_zero a)⟩, hU, fun z => absurd rfl z⟩
theorem i_vc_push {k : Nat} {u : SX} {v : SY} (I : i_Rel k u v) (hk : k + 5 ≤ 2564) (v1 : Int32) : wpX_push (fun r u' => wpY_push (fun r' v' => r' = r ∧ i_Rel (k + 5) u' v') v v1) u v1 := by
  refine re_el (P := fun u v => wpX_push (fun r u' => wpY_push (fun r' v' => r' = r ∧ i_Rel (k + 5) u' v') v v1) u v1) ?_ I
  intro f_bags f_elems f_maxBasis f_maxWord f_stage f_currentMask f_pendingWord f_pendingLength f_atoms f_boxSize f_liveSet f_elementSet f_frontierEnd f_basisSize f_knownCount f_trailSize a_atomCode a_atomWord a_leftTimes a_rightTimes a_coefficient a_fieldCap a_fieldShift a_seen a_frontierCode a_frontierDefect a_basisCode a_cover a_choice a_covered a_trailMark a_nodeSymbol a_nodeChild a_atomNode a_parent a_weight a_shape a_least a_trailNode a_trailShape a_trailLeast a_thingBase a_thingWord f_cur f_n f_pendLen b_pend b_base b_atomLen b_atomWord b_mult b_basis b_cLen b_cBase b_cWord hR J
  obtain ⟨bg, el, MB, MW, A, cd, lt, rt, wd, pw, L, hC, hP, hA, hU, hS⟩ := hR
  have hC' := hC
  obtain ⟨c1, c2, c3, c4, c5, c6, c7, c8, c9, c10⟩ := hC'
  obtain ⟨p1, p2, p3, p4, p5, p6⟩ := hP
  refine br_c (fun s0 => ?_) (fun s0 => br_f s0 ⟨rfl, J⟩)
  refine br_c (fun h1 => br_t s0 (br_t h1 ⟨rfl, J⟩)) (fun h1 => ?_)
  refine br_c (fun h3 => ?_) (fun h3 => br_t s0 (br_f h1 (br_f h3 ⟨rfl, J⟩)))
  have h0 : ¬ v1 < 0 := fun z => h1 (by rw [Int32.lt_iff_toInt_lt] at z ⊢; rw [show (0 : Int32).toInt = 0 from by decide] at z; rw [show (1 : Int32).toInt = 1 from by decide]; omega)
  obtain ⟨s, hs, rfl⟩ := nI_of h0
  have hs3 : s ≤ 3 := (nI_leI (b := 3) hs (by omega)).mp h3
  have hs1 : ¬ s < 1 := fun z => h1 (nI_lt (b := 1) z (by omega))
  refine pk_lt pw.length MW (fun g => ?_) (fun g => br_t s0 (br_f h1 (br_t h3 (br_f (by rw [p5, c8]; exact nI_nlt g (by omega)) ⟨rfl, J⟩)))) p4 c8
  have hlt : f_pendLen < f_maxWord := by rw [p5, c8]; exact nI_lt g (by omega)
  have h64 := wd_lt p1
  have e4 : 2 ^ (2 * pw.length) = 4 ^ pw.length := by rw [Nat.pow_mul]
  have e1 : f_pendingWord ||| (nI s <<< ((2 * f_pendingLength) &&& 31)) = nI (wd_p (pw ++ [s])) := by
    have h4 : 4 ^ pw.length ≤ 4 ^ 2 := Nat.pow_le_pow_right (by omega) (by omega)
    have h5 : s * 4 ^ pw.length ≤ 3 * 4 ^ pw.length := Nat.mul_le_mul_right _ hs3
    rw [p3, p4, ib_2m, pk_shlN (nI (2 * pw.length) &&& 31) (2 * pw.length) (s_l _ (by omega)) (by rw [e4]; omega), ib_or, wd_app, ← e4]
    congr 1
    have := Nat.two_pow_add_eq_or_of_lt (i := 2 * pw.length) (b := wd_p pw) (by rw [e4]; exact h64) s
    rw [Nat.mul_comm s, Nat.or_comm, ← this, Nat.add_comm]
  refine nm_r e1 (nm_r (e' := nI (pw.length + 1)) (by rw [p4, nI_1]) (br_t s0 (br_f h1 (br_t h3 (br_t hlt ⟨by rw [p5]; exact vp_in_nI (by omega) (by omega), nm_e (nm_r (e' := nI (pw.length + 1)) (by rw [p5, nI_1]) ⟨rfl, re_in ?_⟩)⟩)))))
  have hlen : (pw ++ [s]).length = pw.length + 1 := by rw [List.length_append]; rfl
  refine ⟨bg, el, MB, MW, A, cd, lt, rt, wd, pw ++ [s], L, hC, ⟨fun x hx => ?_, by rw [hlen]; omega, rfl, by rw [hlen], by rw [hlen], fun p hp => ?_⟩, hA, hU, hS⟩
  · rcases List.mem_append.mp hx with q | q
    · exact p1 x q
    · have := List.mem_singleton.mp q
      omega
  · rw [hlen] at hp
    rw [p5, nI_clamp (by omega), yy_getD_app]
    by_cases e : p = pw.length
    · subst e
      rw [pk_us, if_neg (by omega), Nat.sub_self]
      rfl
    · rw [pk_un e, if_pos (by omega)]
      exact p6 p (by omega)
end
section
/-! solve, next, seek, count -/
theorem re_two {A : Nat} (cd : Nat → Nat) (c : Nat → Int) : di_two (bx_w cd c) (fun _ => 2) A (bx_cap cd c) := fun b _ => by
  have h1 := bx_capw cd c b
  have h2 := bx_cap3 cd c b
  exact ⟨by omega, by show bx_cap cd c b < 4; omega⟩
theorem re_ht {A : Nat} {cd lt rt : Nat → Nat} {wd : Nat → List Nat} {fa : Int32} {ac aw le ri ba al bw mu : Nat → Int32} (h : re_A A cd lt rt wd fa ac aw le ri ba al bw mu) : ∀ a, a < A → le a = nI (lt a) ∧ ri a = nI (rt a) ∧ lt a ≤ 3 ∧ rt a ≤ 3 ∧ re_c lt rt a = (lt a : Int) - (rt a : Int) := fun a ha => by
  obtain ⟨_, _, h3, h4⟩ := h.2.1 a ha
  obtain ⟨_, _, m3, m4, m5⟩ := h.2.2.2 a ha
  exact ⟨h3, h4, m3, m4, m5⟩
theorem i_vc_solve {k : Nat} {u : SX} {v : SY} (I : i_Rel k u v) (hk : k + 5 ≤ 2564) : wpX_solve (fun r u' => wpY_solve (fun r' v' => r' = r ∧ i_Rel (k + 5) u' v') v) u := by
  refine re_el (P := fun u v => wpX_solve (fun r u' => wpY_solve (fun r' v' => r' = r ∧ i_Rel (k + 5) u' v') v) u) ?_ I
  intro f_bags f_elems f_maxBasis f_maxWord f_stage f_currentMask f_pendingWord f_pendingLength f_atoms f_boxSize f_liveSet f_elementSet f_frontierEnd f_basisSize f_knownCount f_trailSize a_atomCode a_atomWord a_leftTimes a_rightTimes a_coefficient a_fieldCap a_fieldShift a_seen a_frontierCode a_frontierDefect a_basisCode a_cover a_choice a_covered a_trailMark a_nodeSymbol a_nodeChild a_atomNode a_parent a_weight a_shape a_least a_trailNode a_trailShape a_trailLeast a_thingBase a_thingWord f_cur f_n f_pendLen b_pend b_base b_atomLen b_atomWord b_mult b_basis b_cLen b_cBase b_cWord hR J
  obtain ⟨bg, el, MB, MW, A, cd, lt, rt, wd, pw, L, hC, hP, hA, hU, hS⟩ := hR
  have hC' := hC
  have hA' := hA
  have hP' := hP
  obtain ⟨c1, c2, c3, c4, c5, c6, c7, c8, c9, c10⟩ := hC'
  obtain ⟨p1, p2, p3, p4, p5, p6⟩ := hP'
  obtain ⟨a1, a2, a3, a4⟩ := hA'
  by_cases s0 : f_stage = 0
  · by_cases hz : pw.length = 0
    · have fp : f_pendingLength = 0 := by rw [p4, hz]; rfl
      have fy : f_pendLen = 0 := by rw [p5, hz]; rfl
      have no1 : (∀ a, a < A → lt a = 0) → (∃ a, a < A ∧ 0 < lt a) → False := fun h ⟨a, ha, hp⟩ => by have := h a ha; omega
      have no2 : (∀ a, a < A → rt a = 0) → (∃ a, a < A ∧ 0 < rt a) → False := fun h ⟨a, ha, hp⟩ => by have := h a ha; omega
      refine xv_solve (wd := wd) (lt := lt) (rt := rt) (c := re_c lt rt) a1 s0 fp a3.1 (fun a ha => (a2 a ha).1) (fun a ha => (a2 a ha).2.1) (re_ht hA) c7 c6 (fun he => ?_) (fun hl hr hmore bx lv el' fe co cap sh se fc fd bc => ?_) (fun hl hr N bs bx lv el' fe co cap sh se fc fd bc cov ns nch ano hNM hinc hall hX => ?_)
      · exact ys_solve a1 s0 fy a3 a4 c7 c6 (fun _ => ⟨rfl, J⟩) (fun hl hr => (he.elim (fun q => no1 q hl) (fun q => no2 q hr)).elim) (fun hl hr => (he.elim (fun q => no1 q hl) (fun q => no2 q hr)).elim)
      · refine ys_solve a1 s0 fy a3 a4 c7 c6 (fun he => (he.elim (fun q => no1 q hl) (fun q => no2 q hr)).elim) (fun _ _ _ ba => ⟨rfl, re_in ⟨bg, el, MB, MW, A, cd, lt, rt, wd, pw, L, hC, hP, hA, hU, fun z => absurd s0 z⟩⟩) (fun _ _ N' bs' ba hN' hinc' hall' _ => ?_)
        exact absurd hmore (di_few (di_two_s (re_two cd (re_c lt rt))) hinc' hall' hN')
      · refine ys_solve a1 s0 fy a3 a4 c7 c6 (fun he => (he.elim (fun q => no1 q hl) (fun q => no2 q hr)).elim) (fun _ _ hmore => absurd hmore (di_few (re_two cd (re_c lt rt)) hinc hall hNM)) (fun _ _ N' bs' ba hN' hinc' hall' hba => ?_)
        obtain ⟨eN, eB⟩ := di_join (re_two cd (re_c lt rt)) hinc hall hinc' hall'
        subst eN
        have hp16 : 2 ^ rx_f (fun _ => 2) A 0 ≤ 2 ^ 16 := Nat.pow_le_pow_right (by omega) (by rw [yb_f2]; have := a1.1; omega)
        refine ⟨rfl, re_in ⟨bg, el, MB, MW, A, cd, lt, rt, wd, pw, L, ⟨c1, c2, c3, c4, c5, c6, c7, c8, c9, Or.inr (Or.inl rfl)⟩, hP, hA, hU, fun _ => ⟨N, _, hX, ⟨by omega, rfl, bs', fun j hj => ⟨hba j hj, by have := (hinc'.1 j hj).1; omega, fun a ha => eB j hj a ha⟩⟩, Or.inl rfl, fun z => absurd z (by decide)⟩⟩⟩
    · have np : ¬ f_pendingLength = 0 := by rw [p4]; exact nI_ne0 (by omega) (by omega)
      have ny : ¬ f_pendLen ≤ 0 := by rw [p5]; exact nI_nle (by omega) (by omega)
      exact br_t s0 (br_f np (br_t s0 (br_f ny ⟨rfl, J⟩)))
  · exact br_f s0 (br_f s0 ⟨rfl, J⟩)
theorem re_least {P : Nat → Prop} {fr m m' : Nat} (h1 : fr ≤ m) (h2 : P m) (h3 : ∀ x, fr ≤ x → x < m → ¬ P x) (h1' : fr ≤ m') (h2' : P m') (h3' : ∀ x, fr ≤ x → x < m' → ¬ P x) : m = m' := by
  rcases Nat.lt_trichotomy m m' with g | g | g
  · exact absurd h2 (h3' m h1 g)
  · exact g
  · exact absurd h2' (h3 m' h1' g)
section RM
variable {f_bags f_elems f_maxBasis f_maxWord f_stage f_currentMask f_pendingWord f_pendingLength f_atoms f_boxSize f_liveSet f_elementSet f_frontierEnd f_basisSize f_knownCount f_trailSize : Int32} {a_atomCode a_atomWord a_leftTimes a_rightTimes a_coefficient a_fieldCap a_fieldShift a_seen a_frontierCode a_frontierDefect a_basisCode a_cover a_choice a_covered a_trailMark a_nodeSymbol a_nodeChild a_atomNode a_parent a_weight a_shape a_least a_trailNode a_trailShape a_trailLeast a_thingBase : Nat → Int32} {a_thingWord : Nat → Int64} {f_cur f_n f_pendLen : Int32} {b_pend b_base b_atomLen b_atomWord b_mult b_basis b_cLen b_cBase b_cWord : Nat → Int32}
theorem re_xtR {A el : Nat} {cd lt rt : Nat → Nat} {wd : Nat → List Nat} {bw ba al mu : Nat → Int32} (he : f_elems = nI el) (hel : el ≤ 4) (hA : re_A A cd lt rt wd f_atoms a_atomCode a_atomWord a_leftTimes a_rightTimes ba al bw mu) {N : Nat} {B : Nat → Nat → Nat} {fb fl fe : Int32} {cap sh bc cov ns nch : Nat → Int32} (hX : so_X A cd wd (re_c lt rt) N B f_atoms fb fl fe a_coefficient cap sh bc cov ns nch a_atomNode) : xt_R A el cd (fun a => (wd a, cd a)) (re_c lt rt) f_elems a_atomNode a_coefficient a_atomCode := by
  obtain ⟨cv, LV, EL, bs, x1, x2, x3, x4, x5, x6⟩ := hX
  refine ⟨hel, he, fun a ha h20 => ⟨x6 a ha h20, ?_⟩, fun a ha => ⟨?_, (hA.2.1 a ha).1, (hA.1.2.1 a ha).1⟩⟩
  · show (wd a, cd a) = ([], cd a)
    rw [(hA.1.2.1 a ha).2.2.1 h20]
  · rw [(x4 a ha).1]
    obtain ⟨_, _, m3, m4, m5⟩ := hA.2.2.2 a ha
    exact iI_eq0 (by omega) (by omega)
theorem re_move {k : Nat} (hR : re_R f_bags f_elems f_maxBasis f_maxWord f_stage f_currentMask f_pendingWord f_pendingLength f_atoms f_liveSet f_elementSet f_basisSize f_knownCount f_trailSize a_atomCode a_atomWord a_leftTimes a_rightTimes a_coefficient a_fieldCap a_fieldShift a_basisCode a_cover a_nodeSymbol a_nodeChild a_atomNode a_parent a_shape a_least a_trailNode a_trailShape a_trailLeast a_thingBase a_thingWord f_cur f_n f_pendLen b_pend b_base b_atomLen b_atomWord b_mult b_basis) (s0 : ¬ f_stage = 0) {fr : Nat} (hfr : fr < 2 ^ 31) {post : Int32 → SX → Prop}
    (h : ∀ r u', (∀ postY : Int32 → SY → Prop, (∀ v', i_Rel k u' v' → postY r v') → wpY_move postY (f_bags, f_elems, f_maxBasis, f_maxWord, f_stage, f_cur, f_n, f_atoms, f_pendLen, b_pend, b_base, b_atomLen, b_atomWord, b_mult, b_basis, b_cLen, b_cBase, b_cWord) (nI fr)) → post r u') : wpX_moveTo post (f_bags, f_elems, f_maxBasis, f_maxWord, f_stage, f_currentMask, f_pendingWord, f_pendingLength, f_atoms, f_boxSize, f_liveSet, f_elementSet, f_frontierEnd, f_basisSize, f_knownCount, f_trailSize, a_atomCode, a_atomWord, a_leftTimes, a_rightTimes, a_coefficient, a_fieldCap, a_fieldShift, a_seen, a_frontierCode, a_frontierDefect, a_basisCode, a_cover, a_choice, a_covered, a_trailMark, a_nodeSymbol, a_nodeChild, a_atomNode, a_parent, a_weight, a_shape, a_least, a_trailNode, a_trailShape, a_trailLeast, a_thingBase, a_thingWord) (nI fr) := by
  obtain ⟨bg, el, MB, MW, A, cd, lt, rt, wd, pw, L, hC, hP, hA, hU, hS⟩ := hR
  obtain ⟨N, B, hX, hY, hK, hT⟩ := hS s0
  have hC' := hC
  obtain ⟨c1, c2, c3, c4, c5, c6, c7, c8, c9, c10⟩ := hC'
  have hR' := re_xtR c4 c5 hA hX
  have hX' := hX
  obtain ⟨cv, LV, EL, bs, x1, x2, x3, x4, x5, x6⟩ := hX'
  refine xt_move x1 x2 hR' hU hfr ?_ ?_
  · intro m T L' ts pa we sh le tn tsh tl ch co tk tb tw hU' g1 g2 g3 g4 g5 g6 g7
    refine h _ _ (fun postY hp => ya_move hA.1 hA.2.2.1 hY hA.2.2.2 hfr (fun m' cl cb cw q1 q2 q3 q4 => ?_) (fun cl cb cw hno => absurd g3 (hno m g1 g2)))
    have e := re_least g1 g3 g4 q1 q3 q4
    subst e
    exact hp _ (re_in ⟨bg, el, MB, MW, A, cd, lt, rt, wd, pw, L', ⟨c1, c2, c3, c4, c5, c6, c7, c8, c9, Or.inr (Or.inr (Or.inl rfl))⟩, hP, hA, hU', fun _ => ⟨N, B, hX, hY, hK, fun _ => ⟨m, T, rfl, rfl, g2, g3, g5, g6, g7⟩⟩⟩)
  · intro L' ts pa we sh le tn tsh tl ch co tk hU' hno
    refine h _ _ (fun postY hp => ya_move hA.1 hA.2.2.1 hY hA.2.2.2 hfr (fun m' cl cb cw q1 q2 q3 q4 => absurd q3 (hno m' q1 q2)) (fun cl cb cw _ => ?_))
    exact hp _ (re_in ⟨bg, el, MB, MW, A, cd, lt, rt, wd, pw, L', ⟨c1, c2, c3, c4, c5, c6, c7, c8, c9, Or.inr (Or.inr (Or.inr rfl))⟩, hP, hA, hU', fun _ => ⟨N, B, hX, hY, hK, fun z => absurd z (by decide)⟩⟩)
end RM
theorem i_vc_seek {k : Nat} {u : SX} {v : SY} (I : i_Rel k u v) (hk : k + 5 ≤ 2564) (v1 : Int32) : wpX_seek (fun r u' => wpY_seek (fun r' v' => r' = r ∧ i_Rel (k + 5) u' v') v v1) u v1 := by
  refine re_el (P := fun u v => wpX_seek (fun r u' => wpY_seek (fun r' v' => r' = r ∧ i_Rel (k + 5) u' v') v v1) u v1) ?_ I
  intro f_bags f_elems f_maxBasis f_maxWord f_stage f_currentMask f_pendingWord f_pendingLength f_atoms f_boxSize f_liveSet f_elementSet f_frontierEnd f_basisSize f_knownCount f_trailSize a_atomCode a_atomWord a_leftTimes a_rightTimes a_coefficient a_fieldCap a_fieldShift a_seen a_frontierCode a_frontierDefect a_basisCode a_cover a_choice a_covered a_trailMark a_nodeSymbol a_nodeChild a_atomNode a_parent a_weight a_shape a_least a_trailNode a_trailShape a_trailLeast a_thingBase a_thingWord f_cur f_n f_pendLen b_pend b_base b_atomLen b_atomWord b_mult b_basis b_cLen b_cBase b_cWord hR J
  refine br_c (fun s0 => br_t s0 ⟨rfl, J⟩) (fun s0 => br_c (fun h0 => ?_) (fun h0 => br_f s0 (br_f h0 ⟨rfl, J⟩)))
  obtain ⟨j, hj, rfl⟩ := nI_of (Int32.not_lt.mpr h0)
  refine re_move (k := k + 5) (b_cLen := b_cLen) (b_cBase := b_cBase) (b_cWord := b_cWord) hR s0 hj (fun r u' hm => ?_)
  exact br_f s0 (br_t h0 (hm _ (fun v' hv => ⟨rfl, hv⟩)))
theorem i_vc_next {k : Nat} {u : SX} {v : SY} (I : i_Rel k u v) (hk : k + 5 ≤ 2564) : wpX_next (fun r u' => wpY_next (fun r' v' => r' = r ∧ i_Rel (k + 5) u' v') v) u := by
  refine re_el (P := fun u v => wpX_next (fun r u' => wpY_next (fun r' v' => r' = r ∧ i_Rel (k + 5) u' v') v) u) ?_ I
  intro f_bags f_elems f_maxBasis f_maxWord f_stage f_currentMask f_pendingWord f_pendingLength f_atoms f_boxSize f_liveSet f_elementSet f_frontierEnd f_basisSize f_knownCount f_trailSize a_atomCode a_atomWord a_leftTimes a_rightTimes a_coefficient a_fieldCap a_fieldShift a_seen a_frontierCode a_frontierDefect a_basisCode a_cover a_choice a_covered a_trailMark a_nodeSymbol a_nodeChild a_atomNode a_parent a_weight a_shape a_least a_trailNode a_trailShape a_trailLeast a_thingBase a_thingWord f_cur f_n f_pendLen b_pend b_base b_atomLen b_atomWord b_mult b_basis b_cLen b_cBase b_cWord hR J
  refine br_c (fun s0 => br_t s0 ⟨rfl, J⟩) (fun s0 => br_c (fun s3 => br_f s0 (br_t s3 ⟨rfl, J⟩)) (fun s3 => br_c (fun s1 => ?_) (fun s1 => ?_)))
  · have s2 : ¬ f_stage = 2 := by rw [s1]; decide
    refine re_move (k := k + 5) (b_cLen := b_cLen) (b_cBase := b_cBase) (b_cWord := b_cWord) (fr := 0) hR s0 (by omega) (fun r u' hm => ?_)
    exact br_f s0 (br_f s3 (br_f s2 (hm _ (fun v' hv => ⟨rfl, hv⟩))))
  · have hR' := hR
    obtain ⟨bg, el, MB, MW, A, cd, lt, rt, wd, pw, L, hC, hP, hA, hU, hS⟩ := hR'
    obtain ⟨c1, c2, c3, c4, c5, c6, c7, c8, c9, c10⟩ := hC
    have s2 : f_stage = 2 := by
      rcases c10 with q | q | q | q
      · exact absurd q s0
      · exact absurd q s1
      · exact q
      · exact absurd q s3
    obtain ⟨N, B, hX, hY, hK, hT⟩ := hS s0
    obtain ⟨m, T, e1, e2, e3, _⟩ := hT s2
    have hp12 : 2 ^ N ≤ 2 ^ 12 := Nat.pow_le_pow_right (by omega) hY.1
    have ex : f_currentMask + 1 = nI (m + 1) := by rw [e1, nI_1]
    have ey : f_cur + 1 = nI (m + 1) := by rw [e2, nI_1]
    rw [ex]
    refine re_move (k := k + 5) (b_cLen := b_cLen) (b_cBase := b_cBase) (b_cWord := b_cWord) (fr := m + 1) hR s0 (by omega) (fun r u' hm => ?_)
    refine br_f s0 (br_f s3 (br_t s2 (nm_r ey ?_)))
    exact hm _ (fun v' hv => ⟨rfl, hv⟩)
theorem i_vc_count {k : Nat} {u : SX} {v : SY} (I : i_Rel k u v) (hk : k + 5 ≤ 2564) : wpX_count (fun r u' => wpY_count (fun r' v' => r' = r ∧ i_Rel (k + 5) u' v') v) u := by
  refine re_el (P := fun u v => wpX_count (fun r u' => wpY_count (fun r' v' => r' = r ∧ i_Rel (k + 5) u' v') v) u) ?_ I
  intro f_bags f_elems f_maxBasis f_maxWord f_stage f_currentMask f_pendingWord f_pendingLength f_atoms f_boxSize f_liveSet f_elementSet f_frontierEnd f_basisSize f_knownCount f_trailSize a_atomCode a_atomWord a_leftTimes a_rightTimes a_coefficient a_fieldCap a_fieldShift a_seen a_frontierCode a_frontierDefect a_basisCode a_cover a_choice a_covered a_trailMark a_nodeSymbol a_nodeChild a_atomNode a_parent a_weight a_shape a_least a_trailNode a_trailShape a_trailLeast a_thingBase a_thingWord f_cur f_n f_pendLen b_pend b_base b_atomLen b_atomWord b_mult b_basis b_cLen b_cBase b_cWord hR J
  refine br_c (fun s0 => br_t s0 ⟨rfl, J⟩) (fun s0 => ?_)
  have hR' := hR
  obtain ⟨bg, el, MB, MW, A, cd, lt, rt, wd, pw, L, hC, hP, hA, hU, hS⟩ := hR'
  obtain ⟨N, B, hX, hY, hK, hT⟩ := hS s0
  have hp12 : 2 ^ N ≤ 2 ^ 12 := Nat.pow_le_pow_right (by omega) hY.1
  have hcb : mk_cnt A N B cd (fun a => (wd a, cd a)) (re_c lt rt) (2 ^ N) ≤ 2 ^ N := ac_cn_bound _
  rcases hK with hK | hK
  · refine br_f (by rw [hK]; decide) ?_
    have hX' := hX
    obtain ⟨cv, LV, EL, bs, x1, x2, x3, x4, x5, x6⟩ := hX'
    refine xs_count x1 x2 hU (fun L' ts pa we sh le tn tsh tl ch co tk hU' => ?_)
    exact ya_count hA.1 hA.2.2.1 hY hA.2.2.2 s0 (fun cl cb cw => ⟨rfl, re_in ⟨bg, el, MB, MW, A, cd, lt, rt, wd, pw, L', hC, hP, hA, hU', fun _ => ⟨N, B, hX, hY, Or.inr rfl, hT⟩⟩⟩)
  · refine br_t (by rw [hK]; exact nI_pos' (by omega)) ?_
    refine ya_count hA.1 hA.2.2.1 hY hA.2.2.2 s0 (fun cl cb cw => ⟨hK.symm, re_in hR⟩)
end
section
/-! things: imageBase, imageSymbol, occurrences; part -/
theorem th_uniq {A N el : Nat} (hA8 : A ≤ 8) (hN : N ≤ 12) (hel : el ≤ 4) {what i : Int32} {t t' : Nat} (ht : th_n A N el what i t) (ht' : th_n A N el what i t') : t' = t := by
  rcases ht with ⟨w, k, hk, hi, e⟩ | ⟨w, k, hk, hi, e⟩ | ⟨w, k, hk, hi, e⟩ <;> rcases ht' with ⟨w', k', hk', hi', e'⟩ | ⟨w', k', hk', hi', e'⟩ | ⟨w', k', hk', hi', e'⟩
  · have := (nI_eq (show k < 2 ^ 31 by omega) (show k' < 2 ^ 31 by omega)).mp (hi.symm.trans hi'); omega
  · rw [w] at w'; exact absurd w' (by decide)
  · rw [w] at w'; exact absurd w' (by decide)
  · rw [w] at w'; exact absurd w' (by decide)
  · have := (nI_eq (show k < 2 ^ 31 by omega) (show k' < 2 ^ 31 by omega)).mp (hi.symm.trans hi'); omega
  · rw [w] at w'; exact absurd w' (by decide)
  · rw [w] at w'; exact absurd w' (by decide)
  · rw [w] at w'; exact absurd w' (by decide)
  · have := (nI_eq (show k < 2 ^ 31 by omega) (show k' < 2 ^ 31 by omega)).mp (hi.symm.trans hi'); omega
theorem re_sym {q : ch_C} (hl : q.1.length ≤ 24) (ho : wd_ok q.1) {p : Nat} (hp : p < 24) : ((((lN (wd_p q.1)).toUInt64 >>> ((2 * nI p).toInt64.toUInt64 &&& Int64.toUInt64 63)).toInt64) &&& 3).toInt32 = nI (q.1.getD p 0) := by
  have h48 := wd_lt48 ho hl
  have h2 : wd_p q.1 / 2 ^ (2 * p) ≤ wd_p q.1 := Nat.div_le_self _ _
  rw [ib_2m, wb_shr (by omega) (by omega)]
  have e : lN (wd_p q.1 / 2 ^ (2 * p)) &&& 3 = lN (wd_p q.1 / 2 ^ (2 * p) % 4) := g_mask (s := 2) (p := 4) rfl (by omega) (by omega)
  rw [e, lN_i, Nat.pow_mul, ← wd_digit p q.1 ho]
theorem i_vc_imageBase {k : Nat} {u : SX} {v : SY} (I : i_Rel k u v) (hk : k + 5 ≤ 2564) (v1 : Int32) (v2 : Int32) : wpX_imageBase (fun r => wpY_imageBase (fun r' v' => r' = r ∧ i_Rel (k + 5) u v') v v1 v2) u v1 v2 := by
  refine re_el (P := fun u v => wpX_imageBase (fun r => wpY_imageBase (fun r' v' => r' = r ∧ i_Rel (k + 5) u v') v v1 v2) u v1 v2) ?_ I
  intro f_bags f_elems f_maxBasis f_maxWord f_stage f_currentMask f_pendingWord f_pendingLength f_atoms f_boxSize f_liveSet f_elementSet f_frontierEnd f_basisSize f_knownCount f_trailSize a_atomCode a_atomWord a_leftTimes a_rightTimes a_coefficient a_fieldCap a_fieldShift a_seen a_frontierCode a_frontierDefect a_basisCode a_cover a_choice a_covered a_trailMark a_nodeSymbol a_nodeChild a_atomNode a_parent a_weight a_shape a_least a_trailNode a_trailShape a_trailLeast a_thingBase a_thingWord f_cur f_n f_pendLen b_pend b_base b_atomLen b_atomWord b_mult b_basis b_cLen b_cBase b_cWord hR J
  refine br_c (fun s2 => ?_) (fun s2 => br_f s2 ⟨rfl, J⟩)
  have s0 : ¬ f_stage = 0 := by rw [s2]; decide
  have hR' := hR
  obtain ⟨bg, el, MB, MW, A, cd, lt, rt, wd, pw, L, hC, hP, hA, hU, hS⟩ := hR'
  obtain ⟨c1, c2, c3, c4, c5, c6, c7, c8, c9, c10⟩ := hC
  obtain ⟨N, B, hX, hY, hK, hT⟩ := hS s0
  obtain ⟨m, T, e1, e2, e3, e4, e5, e6, e7⟩ := hT s2
  obtain ⟨cv, LV, EL, bs, x1, x2, x3, x4, x5, x6⟩ := hX
  have hA8 := hA.1.1
  have hN := hY.1
  have E : yh_E A N el cd lt rt wd B (re_c lt rt) m T f_elems f_cur f_n f_atoms b_base b_atomLen b_atomWord b_mult b_basis := ⟨hA.1, hA.2.2.1, hY, hA.2.2.2, c4, c5, e2, e3, e4, e5, e6⟩
  refine xo_num x2.1 hA8 x2.2.1 hN c4 c5 (fun t ht => ?_) (fun hb => ?_)
  · obtain ⟨t24, his⟩ := xo_is hA8 hN c5 e7 ht
    refine br_t (nI_pos' (by omega)) ⟨vp_in_nI t24 (by omega), ?_⟩
    rw [nI_clamp (show t < 2 ^ 31 by omega)]
    rcases his with ⟨ho, hb⟩ | ⟨q, ho, hb, hw, _⟩
    · refine br_f (by rw [hb]; decide) (br_t s2 (yh_thing (s := 6) E (by omega) (by omega) (fun z => absurd ht (z t)) (fun t' cl cb cw ht' ho' _ => br_f (by decide) ⟨rfl, re_in hR⟩) (fun t' q cl cb cw ht' ho' _ _ => ?_)))
      rw [th_uniq hA8 hN c5 ht ht', ho] at ho'
      exact absurd ho' (fun z => nomatch z)
    · rw [hb]
      refine br_t (nI_pos' (by omega)) ⟨vp_in_nI t24 (by omega), br_t s2 (yh_thing (s := 6) E (by omega) (by omega) (fun z => absurd ht (z t)) (fun t' cl cb cw ht' ho' _ => ?_) (fun t' q' cl cb cw ht' ho' hs _ => br_t rfl ⟨?_, re_in hR⟩))⟩
      · rw [th_uniq hA8 hN c5 ht ht', ho] at ho'
        exact absurd ho' (fun z => nomatch z)
      · rw [th_uniq hA8 hN c5 ht ht', ho] at ho'
        rw [hs.2.1, Option.some.inj ho']
  · refine br_f (by decide) (br_t s2 (yh_thing (s := 6) E (by omega) (by omega) (fun _ => br_f (by decide) ⟨rfl, re_in hR⟩) (fun t' cl cb cw ht' _ _ => absurd ht' (hb t')) (fun t' q' cl cb cw ht' _ _ _ => absurd ht' (hb t'))))
theorem i_vc_imageSymbol {k : Nat} {u : SX} {v : SY} (I : i_Rel k u v) (hk : k + 5 ≤ 2564) (v1 : Int32) (v2 : Int32) (v3 : Int32) : wpX_imageSymbol (fun r => wpY_imageSymbol (fun r' v' => r' = r ∧ i_Rel (k + 5) u v') v v1 v2 v3) u v1 v2 v3 := by
  refine re_el (P := fun u v => wpX_imageSymbol (fun r => wpY_imageSymbol (fun r' v' => r' = r ∧ i_Rel (k + 5) u v') v v1 v2 v3) u v1 v2 v3) ?_ I
  intro f_bags f_elems f_maxBasis f_maxWord f_stage f_currentMask f_pendingWord f_pendingLength f_atoms f_boxSize f_liveSet f_elementSet f_frontierEnd f_basisSize f_knownCount f_trailSize a_atomCode a_atomWord a_leftTimes a_rightTimes a_coefficient a_fieldCap a_fieldShift a_seen a_frontierCode a_frontierDefect a_basisCode a_cover a_choice a_covered a_trailMark a_nodeSymbol a_nodeChild a_atomNode a_parent a_weight a_shape a_least a_trailNode a_trailShape a_trailLeast a_thingBase a_thingWord f_cur f_n f_pendLen b_pend b_base b_atomLen b_atomWord b_mult b_basis b_cLen b_cBase b_cWord hR J
  refine br_c (fun s2 => ?_) (fun s2 => br_f s2 ⟨rfl, J⟩)
  have s0 : ¬ f_stage = 0 := by rw [s2]; decide
  have hR' := hR
  obtain ⟨bg, el, MB, MW, A, cd, lt, rt, wd, pw, L, hC, hP, hA, hU, hS⟩ := hR'
  obtain ⟨c1, c2, c3, c4, c5, c6, c7, c8, c9, c10⟩ := hC
  obtain ⟨N, B, hX, hY, hK, hT⟩ := hS s0
  obtain ⟨m, T, e1, e2, e3, e4, e5, e6, e7⟩ := hT s2
  obtain ⟨cv, LV, EL, bs, x1, x2, x3, x4, x5, x6⟩ := hX
  have hA8 := hA.1.1
  have hN := hY.1
  have E : yh_E A N el cd lt rt wd B (re_c lt rt) m T f_elems f_cur f_n f_atoms b_base b_atomLen b_atomWord b_mult b_basis := ⟨hA.1, hA.2.2.1, hY, hA.2.2.2, c4, c5, e2, e3, e4, e5, e6⟩
  refine xo_num x2.1 hA8 x2.2.1 hN c4 c5 (fun t ht => ?_) (fun hb => ?_)
  · obtain ⟨t24, his⟩ := xo_is hA8 hN c5 e7 ht
    refine br_t (nI_pos' (by omega)) (br_c (fun h0 => ?_) (fun h0 => br_c (fun h24 => ?_) (fun h24 => ?_)))
    · exact br_t s2 (yh_thing (s := 6) E (by omega) (by omega) (fun z => absurd ht (z t)) (fun t' cl cb cw ht' ho' _ => br_f (by decide) (br_t h0 ⟨rfl, re_in hR⟩)) (fun t' q cl cb cw ht' ho' _ _ => br_f (by decide) (br_t h0 ⟨rfl, re_in hR⟩)))
    · refine ⟨vp_in_nI t24 (by omega), ?_⟩
      rw [nI_clamp (show t < 2 ^ 31 by omega)]
      obtain ⟨p, hp, rfl⟩ := nI_of h0
      have hp24 : p < 24 := (nI_ltI (b := 24) hp (by omega)).mp h24
      rcases his with ⟨ho, hb⟩ | ⟨q, ho, hb, hw, hl, hok, _⟩
      · refine br_f (by rw [hb]; decide) (br_t s2 (yh_thing (s := 6) E (by omega) (by omega) (fun z => absurd ht (z t)) (fun t' cl cb cw ht' ho' _ => br_f (by decide) (br_f h0 (br_t h24 (br_f (by decide) ⟨rfl, re_in hR⟩)))) (fun t' q cl cb cw ht' ho' _ _ => ?_)))
        rw [th_uniq hA8 hN c5 ht ht', ho] at ho'
        exact absurd ho' (fun z => nomatch z)
      · rw [hb, hw, re_sym hl hok hp24]
        refine br_t (nI_pos' (by omega)) ⟨vp_in_nI t24 (by omega), br_t s2 (yh_thing (s := 6) E (by omega) (by omega) (fun z => absurd ht (z t)) (fun t' cl cb cw ht' ho' _ => ?_) (fun t' q' cl cb cw ht' ho' hs _ => br_f (by decide) (br_f h0 (br_t h24 (br_t rfl ?_)))))⟩
        · rw [th_uniq hA8 hN c5 ht ht', ho] at ho'
          exact absurd ho' (fun z => nomatch z)
        · rw [th_uniq hA8 hN c5 ht ht', ho] at ho'
          have eq := Option.some.inj ho'
          subst eq
          rw [hs.1]
          refine pk_lt p q.1.length (fun g => ?_) (fun g => ⟨?_, re_in hR⟩)
          · rw [show (384 : Int32) + nI p = nI (384 + p) from nI_add 384 p, nI_clamp (show 384 + p < 2 ^ 31 by omega)]
            exact ⟨vp_in_nI (by omega) (by omega), hs.2.2.2 p g, re_in hR⟩
          · rw [re_getD0 g]; rfl
    · exact br_t s2 (yh_thing (s := 6) E (by omega) (by omega) (fun z => absurd ht (z t)) (fun t' cl cb cw ht' ho' _ => br_f (by decide) (br_f h0 (br_f h24 ⟨rfl, re_in hR⟩))) (fun t' q cl cb cw ht' ho' _ _ => br_f (by decide) (br_f h0 (br_f h24 ⟨rfl, re_in hR⟩))))
  · exact br_f (by decide) (br_t s2 (yh_thing (s := 6) E (by omega) (by omega) (fun _ => br_t rfl ⟨rfl, re_in hR⟩) (fun t' cl cb cw ht' _ _ => absurd ht' (hb t')) (fun t' q' cl cb cw ht' _ _ _ => absurd ht' (hb t'))))
section RO
variable {f_bags f_elems f_maxBasis f_maxWord f_stage f_currentMask f_pendingWord f_pendingLength f_atoms f_boxSize f_liveSet f_elementSet f_frontierEnd f_basisSize f_knownCount f_trailSize : Int32} {a_atomCode a_atomWord a_leftTimes a_rightTimes a_coefficient a_fieldCap a_fieldShift a_seen a_frontierCode a_frontierDefect a_basisCode a_cover a_choice a_covered a_trailMark a_nodeSymbol a_nodeChild a_atomNode a_parent a_weight a_shape a_least a_trailNode a_trailShape a_trailLeast a_thingBase : Nat → Int32} {a_thingWord : Nat → Int64} {f_cur f_n f_pendLen : Int32} {b_pend b_base b_atomLen b_atomWord b_mult b_basis b_cLen b_cBase b_cWord : Nat → Int32}
theorem re_occ {k : Nat} (hR : re_R f_bags f_elems f_maxBasis f_maxWord f_stage f_currentMask f_pendingWord f_pendingLength f_atoms f_liveSet f_elementSet f_basisSize f_knownCount f_trailSize a_atomCode a_atomWord a_leftTimes a_rightTimes a_coefficient a_fieldCap a_fieldShift a_basisCode a_cover a_nodeSymbol a_nodeChild a_atomNode a_parent a_shape a_least a_trailNode a_trailShape a_trailLeast a_thingBase a_thingWord f_cur f_n f_pendLen b_pend b_base b_atomLen b_atomWord b_mult b_basis) (s2 : f_stage = 2) {sd : Nat} (hsd : sd < 2) (v2 v3 : Int32) {post : Int32 → Prop} (h : ∀ r, wY_occurrences_22 (fun r' v' => r' = r ∧ i_Rel k (f_bags, f_elems, f_maxBasis, f_maxWord, f_stage, f_currentMask, f_pendingWord, f_pendingLength, f_atoms, f_boxSize, f_liveSet, f_elementSet, f_frontierEnd, f_basisSize, f_knownCount, f_trailSize, a_atomCode, a_atomWord, a_leftTimes, a_rightTimes, a_coefficient, a_fieldCap, a_fieldShift, a_seen, a_frontierCode, a_frontierDefect, a_basisCode, a_cover, a_choice, a_covered, a_trailMark, a_nodeSymbol, a_nodeChild, a_atomNode, a_parent, a_weight, a_shape, a_least, a_trailNode, a_trailShape, a_trailLeast, a_thingBase, a_thingWord) v') (nI sd) v2 v3 f_bags f_elems f_maxBasis f_maxWord f_stage f_cur f_n f_atoms f_pendLen b_pend b_base b_atomLen b_atomWord b_mult b_basis b_cLen b_cBase b_cWord → post r) : wX_occurrences_22 post (nI sd) v2 v3 f_bags f_elems f_maxBasis f_maxWord f_stage f_currentMask f_pendingWord f_pendingLength f_atoms f_boxSize f_liveSet f_elementSet f_frontierEnd f_basisSize f_knownCount f_trailSize a_atomCode a_atomWord a_leftTimes a_rightTimes a_coefficient a_fieldCap a_fieldShift a_seen a_frontierCode a_frontierDefect a_basisCode a_cover a_choice a_covered a_trailMark a_nodeSymbol a_nodeChild a_atomNode a_parent a_weight a_shape a_least a_trailNode a_trailShape a_trailLeast a_thingBase a_thingWord := by
  have s0 : ¬ f_stage = 0 := by rw [s2]; decide
  have hR' := hR
  obtain ⟨bg, el, MB, MW, A, cd, lt, rt, wd, pw, L, hC, hP, hA, hU, hS⟩ := hR'
  obtain ⟨c1, c2, c3, c4, c5, c6, c7, c8, c9, c10⟩ := hC
  obtain ⟨N, B, hX, hY, hK, hT⟩ := hS s0
  obtain ⟨m, T, e1, e2, e3, e4, e5, e6, e7⟩ := hT s2
  obtain ⟨cv, LV, EL, bs, x1, x2, x3, x4, x5, x6⟩ := hX
  have hA8 := hA.1.1
  have hN := hY.1
  have E : yh_E A N el cd lt rt wd B (re_c lt rt) m T f_elems f_cur f_n f_atoms b_base b_atomLen b_atomWord b_mult b_basis := ⟨hA.1, hA.2.2.1, hY, hA.2.2.2, c4, c5, e2, e3, e4, e5, e6⟩
  have hok := xo_ok hA8 hN c5 e7
  have hc3 : ∀ a, a < A → -3 ≤ re_c lt rt a ∧ re_c lt rt a ≤ 3 := fun a ha => by
    obtain ⟨_, _, m3, m4, m5⟩ := hA.2.2.2 a ha
    omega
  unfold wX_occurrences_22
  refine xo_num x2.1 hA8 x2.2.1 hN c4 c5 (fun t ht => ?_) (fun hb => ?_)
  · obtain ⟨t24, his⟩ := xo_is hA8 hN c5 e7 ht
    refine br_t (nI_pos' (by omega)) ⟨vp_in_nI t24 (by omega), ?_⟩
    rw [nI_clamp (show t < 2 ^ 31 by omega)]
    have his' := his
    rcases his with ⟨ho, hb⟩ | ⟨q, ho, hb, hw, hl, hqk, h25⟩
    · refine br_f (by rw [hb]; decide) (h _ ?_)
      unfold wY_occurrences_22
      refine yh_thing (s := 6) E (by omega) (by omega) (fun z => absurd ht (z t)) (fun t' cl cb cw ht' ho' _ => br_f (by decide) ⟨rfl, re_in hR⟩) (fun t' q cl cb cw ht' ho' _ _ => ?_)
      rw [th_uniq hA8 hN c5 ht ht', ho] at ho'
      exact absurd ho' (fun z => nomatch z)
    · rw [hb]
      rw [ho] at his'
      obtain ⟨tt, htx, hty⟩ : ∃ tt : Nat → Nat, (∀ a, a < A → tt a ≤ 3 ∧ ((nI sd = 0 ∧ a_leftTimes a = nI (tt a)) ∨ (nI sd ≠ 0 ∧ a_rightTimes a = nI (tt a)))) ∧ ∀ a, a < A → b_mult (sd * 8 + a) = nI (tt a) := by
        rcases (by omega : sd = 0 ∨ sd = 1) with z | z
        · subst z
          refine ⟨lt, fun a ha => ⟨(hA.2.2.2 a ha).2.2.1, Or.inl ⟨rfl, (hA.2.1 a ha).2.2.1⟩⟩, fun a ha => ?_⟩
          rw [show 0 * 8 + a = a from by omega]
          exact (hA.2.2.2 a ha).1
        · subst z
          exact ⟨rt, fun a ha => ⟨(hA.2.2.2 a ha).2.2.2.1, Or.inr ⟨by decide, (hA.2.1 a ha).2.2.2⟩⟩, fun a ha => (hA.2.2.2 a ha).2.1⟩
      refine br_t (nI_pos' (by omega)) ⟨A + 1, xo_57 hA8 x2.1 htx (f := oc_a N cd (re_c lt rt) (mk_item A cd B (fun a => (wd a, cd a)) T m) (mk_atom cd (re_c lt rt) (fun a => (wd a, cd a)) T) q B) (fun a ha post' hp => xo_copies hA8 hN x2.2.1 e1 e3 e7 x3 hc3 x4 (fun a ha => ⟨(hA.2.1 a ha).1, (hA.1.2.1 a ha).1⟩) x5 ha t24 his' hp) (h _ ?_) (A + 1) 0 (Nat.zero_le _) (by omega)⟩
      unfold wY_occurrences_22
      refine yh_thing (s := 6) E (by omega) (by omega) (fun z => absurd ht (z t)) (fun t' cl cb cw ht' ho' _ => ?_) (fun t' q' cl cb cw ht' ho' hs _ => br_t rfl ⟨A + 1, ?_⟩)
      · rw [th_uniq hA8 hN c5 ht ht', ho] at ho'
        exact absurd ho' (fun z => nomatch z)
      · rw [th_uniq hA8 hN c5 ht ht', ho] at ho'
        have eq := Option.some.inj ho'
        subst eq
        exact yo_46 E hok ⟨hl, hqk, h25⟩ hsd hty (fun cl' cb' cw' => ⟨rfl, re_in hR⟩) (A + 1) 0 cl cb cw (Nat.zero_le _) (by omega) hs
  · refine br_f (by decide) (h _ ?_)
    unfold wY_occurrences_22
    exact yh_thing (s := 6) E (by omega) (by omega) (fun _ => br_f (by decide) ⟨rfl, re_in hR⟩) (fun t' cl cb cw ht' _ _ => absurd ht' (hb t')) (fun t' q' cl cb cw ht' _ _ _ => absurd ht' (hb t'))
end RO
theorem i_vc_occurrences {k : Nat} {u : SX} {v : SY} (I : i_Rel k u v) (hk : k + 5 ≤ 2564) (v1 : Int32) (v2 : Int32) (v3 : Int32) : wpX_occurrences (fun r => wpY_occurrences (fun r' v' => r' = r ∧ i_Rel (k + 5) u v') v v1 v2 v3) u v1 v2 v3 := by
  refine re_el (P := fun u v => wpX_occurrences (fun r => wpY_occurrences (fun r' v' => r' = r ∧ i_Rel (k + 5) u v') v v1 v2 v3) u v1 v2 v3) ?_ I
  intro f_bags f_elems f_maxBasis f_maxWord f_stage f_currentMask f_pendingWord f_pendingLength f_atoms f_boxSize f_liveSet f_elementSet f_frontierEnd f_basisSize f_knownCount f_trailSize a_atomCode a_atomWord a_leftTimes a_rightTimes a_coefficient a_fieldCap a_fieldShift a_seen a_frontierCode a_frontierDefect a_basisCode a_cover a_choice a_covered a_trailMark a_nodeSymbol a_nodeChild a_atomNode a_parent a_weight a_shape a_least a_trailNode a_trailShape a_trailLeast a_thingBase a_thingWord f_cur f_n f_pendLen b_pend b_base b_atomLen b_atomWord b_mult b_basis b_cLen b_cBase b_cWord hR J
  refine br_c (fun s2 => ?_) (fun s2 => br_f s2 ⟨rfl, J⟩)
  by_cases h0 : v1 = 0
  · subst h0
    refine br_t rfl (re_occ (k := k + 5) (b_cLen := b_cLen) (b_cBase := b_cBase) (b_cWord := b_cWord) hR s2 (sd := 0) (by omega) v2 v3 (fun r hr => br_t s2 (br_t rfl hr)))
  · by_cases h1 : v1 = 1
    · subst h1
      refine br_f h0 (br_t rfl (re_occ (k := k + 5) (b_cLen := b_cLen) (b_cBase := b_cBase) (b_cWord := b_cWord) hR s2 (sd := 1) (by omega) v2 v3 (fun r hr => br_t s2 (br_f h0 (br_t rfl hr)))))
    · exact br_f h0 (br_f h1 (br_t s2 (br_f h0 (br_f h1 ⟨rfl, J⟩))))
end
section
/-! part and add: looking an atom up -/
section XD
variable {f_bags f_elems f_maxBasis f_maxWord f_stage f_currentMask f_pendingWord f_pendingLength f_atoms f_boxSize f_liveSet f_elementSet f_frontierEnd f_basisSize f_knownCount f_trailSize : Int32} {a_atomCode a_atomWord a_leftTimes a_rightTimes a_coefficient a_fieldCap a_fieldShift a_seen a_frontierCode a_frontierDefect a_basisCode a_cover a_choice a_covered a_trailMark a_nodeSymbol a_nodeChild a_atomNode a_parent a_weight a_shape a_least a_trailNode a_trailShape a_trailLeast a_thingBase : Nat → Int32} {a_thingWord : Nat → Int64}
variable {A : Nat} {cd lt rt : Nat → Nat} {wd : Nat → List Nat}
theorem xa_find_l (hfd : fd_ok A cd wd) (hfa : f_atoms = nI A) (hc : ∀ a, a < A → a_atomCode a = nI (cd a) ∧ a_atomWord a = nI (wd_p (wd a))) {cc : Nat} (hcc : cc < 25) {w : List Nat} (hw : wd_ok w) (hl : w.length ≤ 3) {post : Int32 → Prop} (h : ∀ a, a < A → cd a = cc → wd a = w → post (nI a)) (hn : (∀ a, a < A → ¬ (cd a = cc ∧ wd a = w)) → post (-1)) :
    ∀ n a, a ≤ A → A < n + a → (∀ b, b < a → ¬ (cd b = cc ∧ wd b = w)) → wX_findAtom_2 post (nI cc) (nI (wd_p w)) f_bags f_elems f_maxBasis f_maxWord f_stage f_currentMask f_pendingWord f_pendingLength f_atoms f_boxSize f_liveSet f_elementSet f_frontierEnd f_basisSize f_knownCount f_trailSize a_atomCode a_atomWord a_leftTimes a_rightTimes a_coefficient a_fieldCap a_fieldShift a_seen a_frontierCode a_frontierDefect a_basisCode a_cover a_choice a_covered a_trailMark a_nodeSymbol a_nodeChild a_atomNode a_parent a_weight a_shape a_least a_trailNode a_trailShape a_trailLeast a_thingBase a_thingWord n (nI a) := by
  have hA8 := hfd.1
  have h64 := wd_64 hw hl
  intro n
  induction n with
  | zero => intro a h1 h2; omega
  | succ n ih =>
    intro a ha hN hno
    unfold wX_findAtom_2
    refine pk_le A a (fun g => hn (fun b hb => hno b (by omega))) (fun g => ⟨vp_in_nI (by omega) (by omega), ?_⟩) hfa rfl
    obtain ⟨d1, d2, d3, d4, d5⟩ := hfd.2.1 a g
    have h64' := wd_64 d5 d4
    rw [nI_clamp (show a < 2 ^ 31 by omega), (hc a g).1, (hc a g).2]
    have skip : ¬ (cd a = cc ∧ wd a = w) → wX_findAtom_2 post (nI cc) (nI (wd_p w)) f_bags f_elems f_maxBasis f_maxWord f_stage f_currentMask f_pendingWord f_pendingLength f_atoms f_boxSize f_liveSet f_elementSet f_frontierEnd f_basisSize f_knownCount f_trailSize a_atomCode a_atomWord a_leftTimes a_rightTimes a_coefficient a_fieldCap a_fieldShift a_seen a_frontierCode a_frontierDefect a_basisCode a_cover a_choice a_covered a_trailMark a_nodeSymbol a_nodeChild a_atomNode a_parent a_weight a_shape a_least a_trailNode a_trailShape a_trailLeast a_thingBase a_thingWord n (nI (a + 1)) := by
      intro hne
      refine ih (a + 1) (by omega) (by omega) (fun b hb => ?_)
      by_cases e : b = a
      · rw [e]; exact hne
      · exact hno b (by omega)
    refine pk_eq (cd a) cc (fun e => ⟨vp_in_nI (by omega) (by omega), ?_⟩) (fun e => nm_r (nI_1 a) (skip (fun q => e q.1)))
    refine pk_eq (wd_p (wd a)) (wd_p w) (fun e2 => h a g e (wd_inj d5 hw e2)) (fun e2 => nm_r (nI_1 a) (skip (fun q => e2 (by rw [q.2]))))
theorem xa_find (hfd : fd_ok A cd wd) (hfa : f_atoms = nI A) (hc : ∀ a, a < A → a_atomCode a = nI (cd a) ∧ a_atomWord a = nI (wd_p (wd a))) {cc : Nat} (hcc : cc < 25) {w : List Nat} (hw : wd_ok w) (hl : w.length ≤ 3) {fw : Int32} (hfw : fw = nI (wd_p w)) {post : Int32 → Prop} (h : ∀ a, a < A → cd a = cc → wd a = w → post (nI a)) (hn : (∀ a, a < A → ¬ (cd a = cc ∧ wd a = w)) → post (-1)) : wpX_findAtom post (f_bags, f_elems, f_maxBasis, f_maxWord, f_stage, f_currentMask, f_pendingWord, f_pendingLength, f_atoms, f_boxSize, f_liveSet, f_elementSet, f_frontierEnd, f_basisSize, f_knownCount, f_trailSize, a_atomCode, a_atomWord, a_leftTimes, a_rightTimes, a_coefficient, a_fieldCap, a_fieldShift, a_seen, a_frontierCode, a_frontierDefect, a_basisCode, a_cover, a_choice, a_covered, a_trailMark, a_nodeSymbol, a_nodeChild, a_atomNode, a_parent, a_weight, a_shape, a_least, a_trailNode, a_trailShape, a_trailLeast, a_thingBase, a_thingWord) (nI cc) fw := by
  subst hfw
  exact ⟨A + 1, xa_find_l hfd hfa hc hcc hw hl h hn (A + 1) 0 (Nat.zero_le _) (by omega) (fun b hb => absurd hb (Nat.not_lt_zero b))⟩
end XD
section YD
variable {f_bags f_elems f_maxBasis f_maxWord f_state f_cur f_n f_atoms f_pendLen : Int32} {b_pend b_base b_atomLen b_atomWord b_mult b_basis b_cLen b_cBase b_cWord : Nat → Int32}
variable {A N : Nat} {cd lt rt : Nat → Nat} {wd : Nat → List Nat} {c : Nat → Int} {B : Nat → Nat → Nat}
theorem yp_42 (hfd : fd_ok A cd wd) (hF : yf_A A cd wd f_atoms b_base b_atomLen b_atomWord) (hM : yf_M A lt rt c b_mult) (hY : so_Y A N B f_n b_basis) {x k m : Nat} (hx : x < 5) (hk : k < N) (hcur : f_cur = nI m) (hm : m < 2 ^ 31) {post : Int32 → Prop} (h : ∀ a, a < A → cd a = 20 + x → c a ≠ 0 → post (nI (if m.testBit k = true then B k a else 0))) (hn : (∀ a, a < A → cd a = 20 + x → c a = 0) → post (-7)) :
    ∀ n a, a ≤ A → A < n + a → (∀ b, b < a → cd b = 20 + x → c b = 0) → wY_part_42 post (nI x) (nI k) f_bags f_elems f_maxBasis f_maxWord f_state f_cur f_n f_atoms f_pendLen b_pend b_base b_atomLen b_atomWord b_mult b_basis b_cLen b_cBase b_cWord n (nI a) := by
  have hA8 := hfd.1
  have hN := hY.1
  intro n
  induction n with
  | zero => intro a h1 h2; omega
  | succ n ih =>
    intro a ha hN' hno
    unfold wY_part_42
    refine pk_le A a (fun g => hn (fun b hb => hno b (by omega))) (fun g => ⟨vp_in_nI (by omega) (by omega), ?_⟩) hF.1 rfl
    have hcd := (hfd.2.1 a g).1
    have skip : (cd a = 20 + x → c a = 0) → wY_part_42 post (nI x) (nI k) f_bags f_elems f_maxBasis f_maxWord f_state f_cur f_n f_atoms f_pendLen b_pend b_base b_atomLen b_atomWord b_mult b_basis b_cLen b_cBase b_cWord n (nI (a + 1)) := by
      intro hz
      refine ih (a + 1) (by omega) (by omega) (fun b hb => ?_)
      by_cases e : b = a
      · rw [e]; exact hz
      · exact hno b (by omega)
    rw [nI_clamp (show a < 2 ^ 31 by omega), (hF.2 a g).1, show (20 : Int32) + nI x = nI (20 + x) from nI_add 20 x]
    refine pk_eq (cd a) (20 + x) (fun e => ym_coef hA8 hM g ?_) (fun e => nm_r (nI_1 a) (skip (fun q => absurd q e)))
    by_cases hz : c a = 0
    · exact br_t ((ym_cz hM g).mpr hz) (nm_r (nI_1 a) (skip (fun _ => hz)))
    · have hp := h a g e hz
      refine br_f (fun q => hz ((ym_cz hM g).mp q)) ?_
      cases hb : m.testBit k with
      | false =>
        rw [hb, if_neg Bool.false_ne_true] at hp
        exact br_t (by rw [hcur]; exact (ib_bit0 hm (by omega)).mpr hb) hp
      | true =>
        rw [hb, if_pos rfl] at hp
        refine br_f (fun q => ?_) ⟨vp_in_nI (by omega) (by omega), ?_⟩
        · rw [hcur, ib_bit0 hm (by omega), hb] at q
          exact absurd q (by decide)
        · rw [nI_clamp (show k < 2 ^ 31 by omega)]
          exact yb_basis hA8 hF.1 hY hk g hp
end YD
theorem i_vc_part {k : Nat} {u : SX} {v : SY} (I : i_Rel k u v) (hk : k + 5 ≤ 2564) (v1 : Int32) (v2 : Int32) : wpX_part (fun r => wpY_part (fun r' => r' = r ∧ i_Rel (k + 5) u v) v v1 v2) u v1 v2 := by
  refine re_el (P := fun u v => wpX_part (fun r => wpY_part (fun r' => r' = r ∧ i_Rel (k + 5) u v) v v1 v2) u v1 v2) ?_ I
  intro f_bags f_elems f_maxBasis f_maxWord f_stage f_currentMask f_pendingWord f_pendingLength f_atoms f_boxSize f_liveSet f_elementSet f_frontierEnd f_basisSize f_knownCount f_trailSize a_atomCode a_atomWord a_leftTimes a_rightTimes a_coefficient a_fieldCap a_fieldShift a_seen a_frontierCode a_frontierDefect a_basisCode a_cover a_choice a_covered a_trailMark a_nodeSymbol a_nodeChild a_atomNode a_parent a_weight a_shape a_least a_trailNode a_trailShape a_trailLeast a_thingBase a_thingWord f_cur f_n f_pendLen b_pend b_base b_atomLen b_atomWord b_mult b_basis b_cLen b_cBase b_cWord hR J
  refine br_c (fun s2 => ?_) (fun s2 => br_f s2 ⟨rfl, J⟩)
  have s0 : ¬ f_stage = 0 := by rw [s2]; decide
  obtain ⟨bg, el, MB, MW, A, cd, lt, rt, wd, pw, L, hC, hP, hA, hU, hS⟩ := hR
  obtain ⟨c1, c2, c3, c4, c5, c6, c7, c8, c9, c10⟩ := hC
  obtain ⟨N, B, hX, hY, hK, hT⟩ := hS s0
  obtain ⟨m, T, e1, e2, e3, e4, e5, e6, e7⟩ := hT s2
  obtain ⟨cv, LV, EL, bs, x1, x2, x3, x4, x5, x6⟩ := hX
  have hA8 := hA.1.1
  have hN := hY.1
  have hp12 : 2 ^ N ≤ 2 ^ 12 := Nat.pow_le_pow_right (by omega) hN
  refine br_c (fun h0 => br_t s2 (br_t h0 ⟨rfl, J⟩)) (fun h0 => ?_)
  obtain ⟨x, hx, rfl⟩ := nI_of h0
  refine pk_lt x bg (fun g => ?_) (fun g => br_t s2 (br_f h0 (br_f (by rw [c1]; exact nI_nlt g hx) ⟨rfl, J⟩))) rfl c1
  have ltb : nI x < f_bags := by rw [c1]; exact nI_lt g (by omega)
  refine br_c (fun h1 => br_t s2 (br_f h0 (br_t ltb (br_t h1 ⟨rfl, J⟩)))) (fun h1 => ?_)
  obtain ⟨j, hj, rfl⟩ := nI_of h1
  refine pk_lt j N (fun g2 => ?_) (fun g2 => br_t s2 (br_f h0 (br_t ltb (br_f h1 (br_f (by rw [hY.2.1]; exact nI_nlt g2 hj) ⟨rfl, J⟩))))) rfl x2.2.1
  have ltn : nI j < f_n := by rw [hY.2.1]; exact nI_lt g2 (by omega)
  have goY : ∀ (post : Int32 → Prop), (∀ a, a < A → cd a = 20 + x → re_c lt rt a ≠ 0 → post (nI (if m.testBit j = true then B j a else 0))) → ((∀ a, a < A → cd a = 20 + x → re_c lt rt a = 0) → post (-7)) → wpY_part post (f_bags, f_elems, f_maxBasis, f_maxWord, f_stage, f_cur, f_n, f_atoms, f_pendLen, b_pend, b_base, b_atomLen, b_atomWord, b_mult, b_basis, b_cLen, b_cBase, b_cWord) (nI x) (nI j) := by
    intro post q1 q2
    exact br_t s2 (br_f h0 (br_t ltb (br_f h1 (br_t ltn ⟨A + 1, yp_42 hA.1 hA.2.2.1 hA.2.2.2 hY (show x < 5 by omega) g2 e2 (show m < 2 ^ 31 by omega) q1 q2 (A + 1) 0 (Nat.zero_le _) (by omega) (fun b hb => absurd hb (Nat.not_lt_zero b))⟩))))
  have cz : ∀ a, a < A → (a_coefficient a = 0 ↔ re_c lt rt a = 0) := by
    intro a ha
    rw [(x4 a ha).1]
    exact ym_cz hA.2.2.2 ha
  have uq : ∀ a b, a < A → b < A → cd a = 20 + x → cd b = 20 + x → a = b := fun a b ha hb ea eb => xn_inj hA.1 a b ha hb (by omega) (by omega)
  rw [show (20 : Int32) + nI x = nI (20 + x) from nI_add 20 x]
  refine xa_find hA.1 x2.1 (fun a ha => ⟨(hA.2.1 a ha).1, (hA.2.1 a ha).2.1⟩) (show 20 + x < 25 by omega) wd_ok_nil (Nat.zero_le _) rfl (fun a ha ea ew => ?_) (fun hno => br_t (by decide) (goY _ (fun a ha ea _ => absurd ⟨ea, (hA.1.2.1 a ha).2.2.1 (by omega)⟩ (hno a ha)) (fun _ => ⟨rfl, J⟩)))
  refine br_f (nI_pos (by omega)) ⟨vp_in_nI (by omega) (by omega), ?_⟩
  rw [nI_clamp (show a < 2 ^ 31 by omega)]
  by_cases hz : re_c lt rt a = 0
  · refine br_t ((cz a ha).mpr hz) (goY _ (fun b hb eb hne => ?_) (fun _ => ⟨rfl, J⟩))
    rw [uq b a hb ha eb ea] at hne
    exact absurd hz hne
  · refine br_f (fun q => hz ((cz a ha).mp q)) ?_
    cases hb : m.testBit j with
    | false =>
      refine br_t (by rw [e1]; exact (ib_bit0 (by omega) (by omega)).mpr hb) (goY _ (fun b hb' eb _ => ⟨?_, J⟩) (fun q => absurd (q a ha ea) hz))
      rw [hb, if_neg Bool.false_ne_true]
      rfl
    | true =>
      refine br_f (fun q => ?_) ⟨vp_in_nI (by omega) (by omega), ?_⟩
      · rw [e1, ib_bit0 (by omega) (by omega), hb] at q
        exact absurd q (by decide)
      · obtain ⟨b1, b2, b3⟩ := x5 j g2
        rw [nI_clamp hj, b1]
        refine xb_entry hA8 x3 x4 b2 ha (goY _ (fun b hb' eb _ => ⟨?_, J⟩) (fun q => absurd (q a ha ea) hz))
        rw [hb, if_pos rfl, b3 a ha, uq b a hb' ha eb ea]
end
section
/-! add -/
def ad_lim (v2 fb fe : Int32) : Int32 := if v2 = 0 then fb else if v2 = 1 then fe else 4
def ad_c (v2 v3 v4 fb fe pl : Int32) : Prop := ¬ v3 < 0 ∧ v3 < ad_lim v2 fb fe ∧ ¬ v4 < 1 ∧ v4 ≤ 3 ∧ (v2 = 0 → pl = 0)
def ad_code (kd ix : Nat) : Nat := if kd = 0 then 20 + ix else if kd = 1 then ix else 4 + ix
section XE
variable {f_bags f_elems f_maxBasis f_maxWord f_stage f_currentMask f_pendingWord f_pendingLength f_atoms f_boxSize f_liveSet f_elementSet f_frontierEnd f_basisSize f_knownCount f_trailSize : Int32} {a_atomCode a_atomWord a_leftTimes a_rightTimes a_coefficient a_fieldCap a_fieldShift a_seen a_frontierCode a_frontierDefect a_basisCode a_cover a_choice a_covered a_trailMark a_nodeSymbol a_nodeChild a_atomNode a_parent a_weight a_shape a_least a_trailNode a_trailShape a_trailLeast a_thingBase : Nat → Int32} {a_thingWord : Nat → Int64}
theorem xa_38 {v1 v2 v3 v4 : Int32} (hv2 : v2 = 0 ∨ v2 = 1 ∨ v2 = 2) {post : Int32 → SX → Prop} (hb : ¬ ad_c v2 v3 v4 f_bags f_elems f_pendingLength → post (-2) (f_bags, f_elems, f_maxBasis, f_maxWord, f_stage, f_currentMask, f_pendingWord, f_pendingLength, f_atoms, f_boxSize, f_liveSet, f_elementSet, f_frontierEnd, f_basisSize, f_knownCount, f_trailSize, a_atomCode, a_atomWord, a_leftTimes, a_rightTimes, a_coefficient, a_fieldCap, a_fieldShift, a_seen, a_frontierCode, a_frontierDefect, a_basisCode, a_cover, a_choice, a_covered, a_trailMark, a_nodeSymbol, a_nodeChild, a_atomNode, a_parent, a_weight, a_shape, a_least, a_trailNode, a_trailShape, a_trailLeast, a_thingBase, a_thingWord)) (hg : ad_c v2 v3 v4 f_bags f_elems f_pendingLength → wX_add_87 post v1 v2 v3 v4 f_bags f_elems f_maxBasis f_maxWord f_stage f_currentMask f_pendingWord f_pendingLength f_atoms f_boxSize f_liveSet f_elementSet f_frontierEnd f_basisSize f_knownCount f_trailSize a_atomCode a_atomWord a_leftTimes a_rightTimes a_coefficient a_fieldCap a_fieldShift a_seen a_frontierCode a_frontierDefect a_basisCode a_cover a_choice a_covered a_trailMark a_nodeSymbol a_nodeChild a_atomNode a_parent a_weight a_shape a_least a_trailNode a_trailShape a_trailLeast a_thingBase a_thingWord) : wX_add_38 post v1 v2 v3 v4 f_bags f_elems f_maxBasis f_maxWord f_stage f_currentMask f_pendingWord f_pendingLength f_atoms f_boxSize f_liveSet f_elementSet f_frontierEnd f_basisSize f_knownCount f_trailSize a_atomCode a_atomWord a_leftTimes a_rightTimes a_coefficient a_fieldCap a_fieldShift a_seen a_frontierCode a_frontierDefect a_basisCode a_cover a_choice a_covered a_trailMark a_nodeSymbol a_nodeChild a_atomNode a_parent a_weight a_shape a_least a_trailNode a_trailShape a_trailLeast a_thingBase a_thingWord := by
  have key : ∀ lim, lim = ad_lim v2 f_bags f_elems → ((v3 < 0 → post (-2) (f_bags, f_elems, f_maxBasis, f_maxWord, f_stage, f_currentMask, f_pendingWord, f_pendingLength, f_atoms, f_boxSize, f_liveSet, f_elementSet, f_frontierEnd, f_basisSize, f_knownCount, f_trailSize, a_atomCode, a_atomWord, a_leftTimes, a_rightTimes, a_coefficient, a_fieldCap, a_fieldShift, a_seen, a_frontierCode, a_frontierDefect, a_basisCode, a_cover, a_choice, a_covered, a_trailMark, a_nodeSymbol, a_nodeChild, a_atomNode, a_parent, a_weight, a_shape, a_least, a_trailNode, a_trailShape, a_trailLeast, a_thingBase, a_thingWord)) ∧ (¬ v3 < 0 → ((v3 < lim → ((v4 < 1 → post (-2) (f_bags, f_elems, f_maxBasis, f_maxWord, f_stage, f_currentMask, f_pendingWord, f_pendingLength, f_atoms, f_boxSize, f_liveSet, f_elementSet, f_frontierEnd, f_basisSize, f_knownCount, f_trailSize, a_atomCode, a_atomWord, a_leftTimes, a_rightTimes, a_coefficient, a_fieldCap, a_fieldShift, a_seen, a_frontierCode, a_frontierDefect, a_basisCode, a_cover, a_choice, a_covered, a_trailMark, a_nodeSymbol, a_nodeChild, a_atomNode, a_parent, a_weight, a_shape, a_least, a_trailNode, a_trailShape, a_trailLeast, a_thingBase, a_thingWord)) ∧ (¬ v4 < 1 → ((v4 ≤ 3 → ((v2 = 0 → ((f_pendingLength = 0 → wX_add_87 post v1 v2 v3 v4 f_bags f_elems f_maxBasis f_maxWord f_stage f_currentMask f_pendingWord f_pendingLength f_atoms f_boxSize f_liveSet f_elementSet f_frontierEnd f_basisSize f_knownCount f_trailSize a_atomCode a_atomWord a_leftTimes a_rightTimes a_coefficient a_fieldCap a_fieldShift a_seen a_frontierCode a_frontierDefect a_basisCode a_cover a_choice a_covered a_trailMark a_nodeSymbol a_nodeChild a_atomNode a_parent a_weight a_shape a_least a_trailNode a_trailShape a_trailLeast a_thingBase a_thingWord) ∧ (¬ f_pendingLength = 0 → post (-2) (f_bags, f_elems, f_maxBasis, f_maxWord, f_stage, f_currentMask, f_pendingWord, f_pendingLength, f_atoms, f_boxSize, f_liveSet, f_elementSet, f_frontierEnd, f_basisSize, f_knownCount, f_trailSize, a_atomCode, a_atomWord, a_leftTimes, a_rightTimes, a_coefficient, a_fieldCap, a_fieldShift, a_seen, a_frontierCode, a_frontierDefect, a_basisCode, a_cover, a_choice, a_covered, a_trailMark, a_nodeSymbol, a_nodeChild, a_atomNode, a_parent, a_weight, a_shape, a_least, a_trailNode, a_trailShape, a_trailLeast, a_thingBase, a_thingWord)))) ∧ (¬ v2 = 0 → wX_add_87 post v1 v2 v3 v4 f_bags f_elems f_maxBasis f_maxWord f_stage f_currentMask f_pendingWord f_pendingLength f_atoms f_boxSize f_liveSet f_elementSet f_frontierEnd f_basisSize f_knownCount f_trailSize a_atomCode a_atomWord a_leftTimes a_rightTimes a_coefficient a_fieldCap a_fieldShift a_seen a_frontierCode a_frontierDefect a_basisCode a_cover a_choice a_covered a_trailMark a_nodeSymbol a_nodeChild a_atomNode a_parent a_weight a_shape a_least a_trailNode a_trailShape a_trailLeast a_thingBase a_thingWord))) ∧ (¬ v4 ≤ 3 → post (-2) (f_bags, f_elems, f_maxBasis, f_maxWord, f_stage, f_currentMask, f_pendingWord, f_pendingLength, f_atoms, f_boxSize, f_liveSet, f_elementSet, f_frontierEnd, f_basisSize, f_knownCount, f_trailSize, a_atomCode, a_atomWord, a_leftTimes, a_rightTimes, a_coefficient, a_fieldCap, a_fieldShift, a_seen, a_frontierCode, a_frontierDefect, a_basisCode, a_cover, a_choice, a_covered, a_trailMark, a_nodeSymbol, a_nodeChild, a_atomNode, a_parent, a_weight, a_shape, a_least, a_trailNode, a_trailShape, a_trailLeast, a_thingBase, a_thingWord)))))) ∧ (¬ v3 < lim → post (-2) (f_bags, f_elems, f_maxBasis, f_maxWord, f_stage, f_currentMask, f_pendingWord, f_pendingLength, f_atoms, f_boxSize, f_liveSet, f_elementSet, f_frontierEnd, f_basisSize, f_knownCount, f_trailSize, a_atomCode, a_atomWord, a_leftTimes, a_rightTimes, a_coefficient, a_fieldCap, a_fieldShift, a_seen, a_frontierCode, a_frontierDefect, a_basisCode, a_cover, a_choice, a_covered, a_trailMark, a_nodeSymbol, a_nodeChild, a_atomNode, a_parent, a_weight, a_shape, a_least, a_trailNode, a_trailShape, a_trailLeast, a_thingBase, a_thingWord))))) := by
    intro lim hl
    subst hl
    exact br_c (fun h => hb (fun q => q.1 h)) (fun h3 => br_c (fun h3' => br_c (fun h => hb (fun q => q.2.2.1 h)) (fun h4 => br_c (fun h4' => br_c (fun h2 => br_c (fun hp => hg ⟨h3, h3', h4, h4', fun _ => hp⟩) (fun hp => hb (fun q => hp (q.2.2.2.2 h2)))) (fun h2 => hg ⟨h3, h3', h4, h4', fun z => absurd z h2⟩)) (fun h => hb (fun q => h q.2.2.2.1)))) (fun h => hb (fun q => h q.2.1)))
  unfold wX_add_38
  rcases hv2 with e | e | e
  · exact br_t e (key f_bags (by unfold ad_lim; rw [if_pos e]))
  · have n0 : ¬ v2 = 0 := by rw [e]; decide
    exact br_f n0 (br_t e (key f_elems (by unfold ad_lim; rw [if_neg n0, if_pos e])))
  · have n0 : ¬ v2 = 0 := by rw [e]; decide
    have n1 : ¬ v2 = 1 := by rw [e]; decide
    exact br_f n0 (br_f n1 (key 4 (by unfold ad_lim; rw [if_neg n0, if_neg n1])))
variable {A : Nat} {cd lt rt : Nat → Nat} {wd : Nat → List Nat}
theorem xa_201 {sd tm a l r : Nat} (hsd : sd < 2) (ha : a < 8) (hl : a_leftTimes a = nI l) (hr : a_rightTimes a = nI r) {post : Int32 → SX → Prop}
    (h : ∀ le ri, (∀ b, b ≠ a → le b = a_leftTimes b ∧ ri b = a_rightTimes b) → le a = nI (if sd = 0 then l + tm else l) → ri a = nI (if sd = 0 then r else r + tm) → post (nI a) (f_bags, f_elems, f_maxBasis, f_maxWord, f_stage, f_currentMask, 0, 0, f_atoms, f_boxSize, f_liveSet, f_elementSet, f_frontierEnd, f_basisSize, f_knownCount, f_trailSize, a_atomCode, a_atomWord, le, ri, a_coefficient, a_fieldCap, a_fieldShift, a_seen, a_frontierCode, a_frontierDefect, a_basisCode, a_cover, a_choice, a_covered, a_trailMark, a_nodeSymbol, a_nodeChild, a_atomNode, a_parent, a_weight, a_shape, a_least, a_trailNode, a_trailShape, a_trailLeast, a_thingBase, a_thingWord)) : wX_add_201 post (nI sd) (nI tm) (nI a) f_bags f_elems f_maxBasis f_maxWord f_stage f_currentMask f_pendingWord f_pendingLength f_atoms f_boxSize f_liveSet f_elementSet f_frontierEnd f_basisSize f_knownCount f_trailSize a_atomCode a_atomWord a_leftTimes a_rightTimes a_coefficient a_fieldCap a_fieldShift a_seen a_frontierCode a_frontierDefect a_basisCode a_cover a_choice a_covered a_trailMark a_nodeSymbol a_nodeChild a_atomNode a_parent a_weight a_shape a_least a_trailNode a_trailShape a_trailLeast a_thingBase a_thingWord := by
  have ia : vp_in (nI a) 8 := vp_in_nI ha (by omega)
  unfold wX_add_201
  rw [nI_clamp (show a < 2 ^ 31 by omega), hl, hr, nI_add, nI_add]
  rcases (by omega : sd = 0 ∨ sd = 1) with z | z
  · subst z
    refine br_t rfl ⟨ia, ia, nm_e ?_⟩
    exact h _ _ (fun b hb => ⟨pk_un hb, rfl⟩) pk_us hr
  · subst z
    refine br_f (by decide) ⟨ia, ia, nm_e ?_⟩
    exact h _ _ (fun b hb => ⟨rfl, pk_un hb⟩) hl pk_us
theorem xa_87 (hfd : fd_ok A cd wd) (hfa : f_atoms = nI A) (hc : ∀ a, a < A → a_atomCode a = nI (cd a) ∧ a_atomWord a = nI (wd_p (wd a)) ∧ a_leftTimes a = nI (lt a) ∧ a_rightTimes a = nI (rt a) ∧ lt a ≤ 3 ∧ rt a ≤ 3) {pw : List Nat} (hw : wd_ok pw) (hl : pw.length ≤ 3) (hfw : f_pendingWord = nI (wd_p pw)) {sd kd ix tm : Nat} (hsd : sd < 2) (hkd : kd < 3) (hcc : ad_code kd ix < 25) (htm : tm ≤ 3) {post : Int32 → SX → Prop}
    (hF : ∀ a le ri, a < A → cd a = ad_code kd ix → wd a = pw → (if sd = 0 then lt a else rt a) + tm ≤ 3 → (∀ b, b ≠ a → le b = a_leftTimes b ∧ ri b = a_rightTimes b) → le a = nI (if sd = 0 then lt a + tm else lt a) → ri a = nI (if sd = 0 then rt a else rt a + tm) → post (nI a) (f_bags, f_elems, f_maxBasis, f_maxWord, f_stage, f_currentMask, 0, 0, f_atoms, f_boxSize, f_liveSet, f_elementSet, f_frontierEnd, f_basisSize, f_knownCount, f_trailSize, a_atomCode, a_atomWord, le, ri, a_coefficient, a_fieldCap, a_fieldShift, a_seen, a_frontierCode, a_frontierDefect, a_basisCode, a_cover, a_choice, a_covered, a_trailMark, a_nodeSymbol, a_nodeChild, a_atomNode, a_parent, a_weight, a_shape, a_least, a_trailNode, a_trailShape, a_trailLeast, a_thingBase, a_thingWord))
    (h3 : (∃ a, a < A ∧ cd a = ad_code kd ix ∧ wd a = pw ∧ 3 < (if sd = 0 then lt a else rt a) + tm) ∨ ((∀ a, a < A → ¬ (cd a = ad_code kd ix ∧ wd a = pw)) ∧ A = 8) → post (-3) (f_bags, f_elems, f_maxBasis, f_maxWord, f_stage, f_currentMask, f_pendingWord, f_pendingLength, f_atoms, f_boxSize, f_liveSet, f_elementSet, f_frontierEnd, f_basisSize, f_knownCount, f_trailSize, a_atomCode, a_atomWord, a_leftTimes, a_rightTimes, a_coefficient, a_fieldCap, a_fieldShift, a_seen, a_frontierCode, a_frontierDefect, a_basisCode, a_cover, a_choice, a_covered, a_trailMark, a_nodeSymbol, a_nodeChild, a_atomNode, a_parent, a_weight, a_shape, a_least, a_trailNode, a_trailShape, a_trailLeast, a_thingBase, a_thingWord))
    (hN : (∀ a, a < A → ¬ (cd a = ad_code kd ix ∧ wd a = pw)) → A < 8 → ∀ ac aw le ri, (∀ b, b ≠ A → ac b = a_atomCode b ∧ aw b = a_atomWord b ∧ le b = a_leftTimes b ∧ ri b = a_rightTimes b) → ac A = nI (ad_code kd ix) → aw A = nI (wd_p pw) → le A = nI (if sd = 0 then tm else 0) → ri A = nI (if sd = 0 then 0 else tm) → post (nI A) (f_bags, f_elems, f_maxBasis, f_maxWord, f_stage, f_currentMask, 0, 0, nI (A + 1), f_boxSize, f_liveSet, f_elementSet, f_frontierEnd, f_basisSize, f_knownCount, f_trailSize, ac, aw, le, ri, a_coefficient, a_fieldCap, a_fieldShift, a_seen, a_frontierCode, a_frontierDefect, a_basisCode, a_cover, a_choice, a_covered, a_trailMark, a_nodeSymbol, a_nodeChild, a_atomNode, a_parent, a_weight, a_shape, a_least, a_trailNode, a_trailShape, a_trailLeast, a_thingBase, a_thingWord)) :
    wX_add_87 post (nI sd) (nI kd) (nI ix) (nI tm) f_bags f_elems f_maxBasis f_maxWord f_stage f_currentMask f_pendingWord f_pendingLength f_atoms f_boxSize f_liveSet f_elementSet f_frontierEnd f_basisSize f_knownCount f_trailSize a_atomCode a_atomWord a_leftTimes a_rightTimes a_coefficient a_fieldCap a_fieldShift a_seen a_frontierCode a_frontierDefect a_basisCode a_cover a_choice a_covered a_trailMark a_nodeSymbol a_nodeChild a_atomNode a_parent a_weight a_shape a_least a_trailNode a_trailShape a_trailLeast a_thingBase a_thingWord := by
  have hA8 := hfd.1
  have key : ∀ r : Int32, r + nI ix = nI (ad_code kd ix) → ∀ y : Int32, y = r + nI ix → wpX_findAtom (fun r_98 => (((0 ≤ r_98 → (wpX_timesOn (fun r_143 => ((((r_143 + nI tm) ≤ 3 → (wX_add_201 post (nI sd) (nI tm) r_98 f_bags f_elems f_maxBasis f_maxWord f_stage f_currentMask f_pendingWord f_pendingLength f_atoms f_boxSize f_liveSet f_elementSet f_frontierEnd f_basisSize f_knownCount f_trailSize a_atomCode a_atomWord a_leftTimes a_rightTimes a_coefficient a_fieldCap a_fieldShift a_seen a_frontierCode a_frontierDefect a_basisCode a_cover a_choice a_covered a_trailMark a_nodeSymbol a_nodeChild a_atomNode a_parent a_weight a_shape a_least a_trailNode a_trailShape a_trailLeast a_thingBase a_thingWord)) ∧ (¬ (r_143 + nI tm) ≤ 3 → (post (-3) (f_bags, f_elems, f_maxBasis, f_maxWord, f_stage, f_currentMask, f_pendingWord, f_pendingLength, f_atoms, f_boxSize, f_liveSet, f_elementSet, f_frontierEnd, f_basisSize, f_knownCount, f_trailSize, a_atomCode, a_atomWord, a_leftTimes, a_rightTimes, a_coefficient, a_fieldCap, a_fieldShift, a_seen, a_frontierCode, a_frontierDefect, a_basisCode, a_cover, a_choice, a_covered, a_trailMark, a_nodeSymbol, a_nodeChild, a_atomNode, a_parent, a_weight, a_shape, a_least, a_trailNode, a_trailShape, a_trailLeast, a_thingBase, a_thingWord)))))) (f_bags, f_elems, f_maxBasis, f_maxWord, f_stage, f_currentMask, f_pendingWord, f_pendingLength, f_atoms, f_boxSize, f_liveSet, f_elementSet, f_frontierEnd, f_basisSize, f_knownCount, f_trailSize, a_atomCode, a_atomWord, a_leftTimes, a_rightTimes, a_coefficient, a_fieldCap, a_fieldShift, a_seen, a_frontierCode, a_frontierDefect, a_basisCode, a_cover, a_choice, a_covered, a_trailMark, a_nodeSymbol, a_nodeChild, a_atomNode, a_parent, a_weight, a_shape, a_least, a_trailNode, a_trailShape, a_trailLeast, a_thingBase, a_thingWord) (nI sd) r_98)) ∧ (¬ 0 ≤ r_98 → (((f_atoms < 8 → (vp_in f_atoms 8 ∧ ∀ a_atomCode_241 : Nat → Int32, a_atomCode_241 = upd a_atomCode f_atoms.toNatClampNeg y → (vp_in f_atoms 8 ∧ ∀ a_atomWord_243 : Nat → Int32, a_atomWord_243 = upd a_atomWord f_atoms.toNatClampNeg f_pendingWord → (vp_in f_atoms 8 ∧ ∀ a_leftTimes_245 : Nat → Int32, a_leftTimes_245 = upd a_leftTimes f_atoms.toNatClampNeg 0 → (vp_in f_atoms 8 ∧ ∀ a_rightTimes_247 : Nat → Int32, a_rightTimes_247 = upd a_rightTimes f_atoms.toNatClampNeg 0 → (∀ f_atoms_248 : Int32, f_atoms_248 = f_atoms + 1 → (wX_add_201 post (nI sd) (nI tm) f_atoms f_bags f_elems f_maxBasis f_maxWord f_stage f_currentMask f_pendingWord f_pendingLength f_atoms_248 f_boxSize f_liveSet f_elementSet f_frontierEnd f_basisSize f_knownCount f_trailSize a_atomCode_241 a_atomWord_243 a_leftTimes_245 a_rightTimes_247 a_coefficient a_fieldCap a_fieldShift a_seen a_frontierCode a_frontierDefect a_basisCode a_cover a_choice a_covered a_trailMark a_nodeSymbol a_nodeChild a_atomNode a_parent a_weight a_shape a_least a_trailNode a_trailShape a_trailLeast a_thingBase a_thingWord))))))) ∧ (¬ f_atoms < 8 → (post (-3) (f_bags, f_elems, f_maxBasis, f_maxWord, f_stage, f_currentMask, f_pendingWord, f_pendingLength, f_atoms, f_boxSize, f_liveSet, f_elementSet, f_frontierEnd, f_basisSize, f_knownCount, f_trailSize, a_atomCode, a_atomWord, a_leftTimes, a_rightTimes, a_coefficient, a_fieldCap, a_fieldShift, a_seen, a_frontierCode, a_frontierDefect, a_basisCode, a_cover, a_choice, a_covered, a_trailMark, a_nodeSymbol, a_nodeChild, a_atomNode, a_parent, a_weight, a_shape, a_least, a_trailNode, a_trailShape, a_trailLeast, a_thingBase, a_thingWord))))))))) (f_bags, f_elems, f_maxBasis, f_maxWord, f_stage, f_currentMask, f_pendingWord, f_pendingLength, f_atoms, f_boxSize, f_liveSet, f_elementSet, f_frontierEnd, f_basisSize, f_knownCount, f_trailSize, a_atomCode, a_atomWord, a_leftTimes, a_rightTimes, a_coefficient, a_fieldCap, a_fieldShift, a_seen, a_frontierCode, a_frontierDefect, a_basisCode, a_cover, a_choice, a_covered, a_trailMark, a_nodeSymbol, a_nodeChild, a_atomNode, a_parent, a_weight, a_shape, a_least, a_trailNode, a_trailShape, a_trailLeast, a_thingBase, a_thingWord) y f_pendingWord := by
    intro r hr
    rw [hr]
    refine nm_e ?_
    refine xa_find hfd hfa (fun a ha => ⟨(hc a ha).1, (hc a ha).2.1⟩) hcc hw hl hfw (fun a ha e1 e2 => ?_) (fun hno => ?_)
    · obtain ⟨_, _, q3, q4, q5, q6⟩ := hc a ha
      refine br_t (nI_pos' (by omega)) ?_
      have fin : ∀ t, t = (if sd = 0 then lt a else rt a) → ((nI t + nI tm ≤ 3 → wX_add_201 post (nI sd) (nI tm) (nI a) f_bags f_elems f_maxBasis f_maxWord f_stage f_currentMask f_pendingWord f_pendingLength f_atoms f_boxSize f_liveSet f_elementSet f_frontierEnd f_basisSize f_knownCount f_trailSize a_atomCode a_atomWord a_leftTimes a_rightTimes a_coefficient a_fieldCap a_fieldShift a_seen a_frontierCode a_frontierDefect a_basisCode a_cover a_choice a_covered a_trailMark a_nodeSymbol a_nodeChild a_atomNode a_parent a_weight a_shape a_least a_trailNode a_trailShape a_trailLeast a_thingBase a_thingWord) ∧ (¬ nI t + nI tm ≤ 3 → post (-3) (f_bags, f_elems, f_maxBasis, f_maxWord, f_stage, f_currentMask, f_pendingWord, f_pendingLength, f_atoms, f_boxSize, f_liveSet, f_elementSet, f_frontierEnd, f_basisSize, f_knownCount, f_trailSize, a_atomCode, a_atomWord, a_leftTimes, a_rightTimes, a_coefficient, a_fieldCap, a_fieldShift, a_seen, a_frontierCode, a_frontierDefect, a_basisCode, a_cover, a_choice, a_covered, a_trailMark, a_nodeSymbol, a_nodeChild, a_atomNode, a_parent, a_weight, a_shape, a_least, a_trailNode, a_trailShape, a_trailLeast, a_thingBase, a_thingWord))) := by
        intro t ht
        rw [nI_add]
        have ht3 : t ≤ 3 := by rw [ht]; split <;> assumption
        refine pk_le (t + tm) 3 (fun g => xa_201 hsd (by omega) q3 q4 (fun le ri r1 r2 r3 => hF a le ri ha e1 e2 (by rw [← ht]; exact g) r1 r2 r3)) (fun g => h3 (Or.inl ⟨a, ha, e1, e2, by rw [← ht]; exact g⟩))
      rcases (by omega : sd = 0 ∨ sd = 1) with z | z
      · subst z
        refine br_t rfl ⟨vp_in_nI (by omega) (by omega), ?_⟩
        rw [nI_clamp (show a < 2 ^ 31 by omega), q3]
        exact fin (lt a) rfl
      · subst z
        refine br_f (by decide) ⟨vp_in_nI (by omega) (by omega), ?_⟩
        rw [nI_clamp (show a < 2 ^ 31 by omega), q4]
        exact fin (rt a) rfl
    · refine br_f (by decide) (pk_lt A 8 (fun g => ?_) (fun g => h3 (Or.inr ⟨hno, by omega⟩)) hfa rfl)
      have ia : vp_in f_atoms 8 := by rw [hfa]; exact vp_in_nI g (by omega)
      have ca : f_atoms.toNatClampNeg = A := by rw [hfa]; exact nI_clamp (by omega)
      rw [ca]
      refine ⟨ia, nm_e ⟨ia, nm_e ⟨ia, nm_e ⟨ia, nm_e (nm_r (e' := nI (A + 1)) (by rw [hfa, nI_1]) ?_)⟩⟩⟩⟩
      have h201 := xa_201 (f_bags := f_bags) (f_elems := f_elems) (f_maxBasis := f_maxBasis) (f_maxWord := f_maxWord) (f_stage := f_stage) (f_currentMask := f_currentMask) (f_pendingWord := f_pendingWord) (f_pendingLength := f_pendingLength) (f_atoms := nI (A + 1)) (f_boxSize := f_boxSize) (f_liveSet := f_liveSet) (f_elementSet := f_elementSet) (f_frontierEnd := f_frontierEnd) (f_basisSize := f_basisSize) (f_knownCount := f_knownCount) (f_trailSize := f_trailSize) (a_atomCode := upd a_atomCode A (nI (ad_code kd ix))) (a_atomWord := upd a_atomWord A f_pendingWord) (a_leftTimes := upd a_leftTimes A 0) (a_rightTimes := upd a_rightTimes A 0) (a_coefficient := a_coefficient) (a_fieldCap := a_fieldCap) (a_fieldShift := a_fieldShift) (a_seen := a_seen) (a_frontierCode := a_frontierCode) (a_frontierDefect := a_frontierDefect) (a_basisCode := a_basisCode) (a_cover := a_cover) (a_choice := a_choice) (a_covered := a_covered) (a_trailMark := a_trailMark) (a_nodeSymbol := a_nodeSymbol) (a_nodeChild := a_nodeChild) (a_atomNode := a_atomNode) (a_parent := a_parent) (a_weight := a_weight) (a_shape := a_shape) (a_least := a_least) (a_trailNode := a_trailNode) (a_trailShape := a_trailShape) (a_trailLeast := a_trailLeast) (a_thingBase := a_thingBase) (a_thingWord := a_thingWord) (sd := sd) (tm := tm) (a := A) (l := 0) (r := 0) hsd g pk_us pk_us (post := post) (fun le ri r1 r2 r3 => hN hno g _ _ le ri (fun b hb => ⟨pk_un hb, pk_un hb, (r1 b hb).1.trans (pk_un hb), (r1 b hb).2.trans (pk_un hb)⟩) pk_us (by rw [pk_us]; exact hfw) (by rw [r2, Nat.zero_add]) (by rw [r3, Nat.zero_add]))
      rw [← hfa] at h201
      exact h201
  unfold wX_add_87
  rcases (by omega : kd = 0 ∨ kd = 1 ∨ kd = 2) with z | z | z
  · subst z
    exact br_t rfl (key 20 (nI_add 20 ix))
  · subst z
    exact br_f (by decide) (br_t rfl (key 0 (by rw [Int32.zero_add]; rfl)))
  · subst z
    exact br_f (by decide) (br_f (by decide) (key 4 (nI_add 4 ix)))
end XE
end
section
/-! the reference's add, and the call -/
section YE
variable {f_bags f_elems f_maxBasis f_maxWord f_state f_cur f_n f_atoms f_pendLen : Int32} {b_pend b_base b_atomLen b_atomWord b_mult b_basis b_cLen b_cBase b_cWord : Nat → Int32}
theorem ya_38 {v1 v2 v3 v4 : Int32} (hv2 : v2 = 0 ∨ v2 = 1 ∨ v2 = 2) {pl : Nat} (hpl : pl ≤ 3) (hfp : f_pendLen = nI pl) {post : Int32 → SY → Prop} (hb : ¬ ad_c v2 v3 v4 f_bags f_elems f_pendLen → post (-2) (f_bags, f_elems, f_maxBasis, f_maxWord, f_state, f_cur, f_n, f_atoms, f_pendLen, b_pend, b_base, b_atomLen, b_atomWord, b_mult, b_basis, b_cLen, b_cBase, b_cWord)) (hg : ad_c v2 v3 v4 f_bags f_elems f_pendLen → wY_add_118 post v1 v2 v3 v4 f_bags f_elems f_maxBasis f_maxWord f_state f_cur f_n f_atoms f_pendLen b_pend b_base b_atomLen b_atomWord b_mult b_basis b_cLen b_cBase b_cWord) : wY_add_38 post v1 v2 v3 v4 f_bags f_elems f_maxBasis f_maxWord f_state f_cur f_n f_atoms f_pendLen b_pend b_base b_atomLen b_atomWord b_mult b_basis b_cLen b_cBase b_cWord := by
  have pz : f_pendLen ≤ 0 ↔ f_pendLen = 0 := by rw [hfp, ib_lt0 (by omega), ib_0 (by omega)]
  have k89 : ¬ v3 < 0 → v3 < ad_lim v2 f_bags f_elems → wY_add_89 post v1 v2 v3 v4 f_bags f_elems f_maxBasis f_maxWord f_state f_cur f_n f_atoms f_pendLen b_pend b_base b_atomLen b_atomWord b_mult b_basis b_cLen b_cBase b_cWord := by
    intro h3 h3'
    unfold wY_add_89
    exact br_c (fun h => hb (fun q => q.2.2.1 h)) (fun h4 => br_c (fun h4' => br_c (fun h2 => br_c (fun hp => hg ⟨h3, h3', h4, h4', fun _ => pz.mp hp⟩) (fun hp => hb (fun q => hp (pz.mpr (q.2.2.2.2 h2))))) (fun h2 => hg ⟨h3, h3', h4, h4', fun z => absurd z h2⟩)) (fun h => hb (fun q => h q.2.2.2.1)))
  have neg : ¬ 0 ≤ v3 → post (-2) (f_bags, f_elems, f_maxBasis, f_maxWord, f_state, f_cur, f_n, f_atoms, f_pendLen, b_pend, b_base, b_atomLen, b_atomWord, b_mult, b_basis, b_cLen, b_cBase, b_cWord) := fun h => hb (fun q => h (Int32.not_lt.mp q.1))
  unfold wY_add_38
  refine br_c (fun h0 => ?_) neg
  have h3 : ¬ v3 < 0 := Int32.not_lt.mpr h0
  rcases hv2 with e | e | e
  · have n1 : ¬ v2 = 1 := by rw [e]; decide
    have n2 : ¬ v2 = 2 := by rw [e]; decide
    have el : ad_lim v2 f_bags f_elems = f_bags := if_pos e
    refine br_t e (br_c (fun h => br_f n1 (br_f n2 (k89 h3 (by rw [el]; exact h)))) (fun h => hb (fun q => h (by rw [← el]; exact q.2.1))))
  · have n0 : ¬ v2 = 0 := by rw [e]; decide
    have n2 : ¬ v2 = 2 := by rw [e]; decide
    have el : ad_lim v2 f_bags f_elems = f_elems := by unfold ad_lim; rw [if_neg n0, if_pos e]
    refine br_f n0 (br_t e (br_c (fun h => br_f n2 (k89 h3 (by rw [el]; exact h))) (fun h => hb (fun q => h (by rw [← el]; exact q.2.1)))))
  · have n0 : ¬ v2 = 0 := by rw [e]; decide
    have n1 : ¬ v2 = 1 := by rw [e]; decide
    have el : ad_lim v2 f_bags f_elems = 4 := by unfold ad_lim; rw [if_neg n0, if_neg n1]
    refine br_f n0 (br_f n1 (br_t e (br_c (fun h => k89 h3 (by rw [el]; exact h)) (fun h => hb (fun q => h (by rw [← el]; exact q.2.1))))))
variable {A : Nat} {cd lt rt : Nat → Nat} {wd : Nat → List Nat} {c : Nat → Int} {pw : List Nat}
theorem ya_192_0 (hA8 : A ≤ 8) {a : Nat} (ha : a < A) (hl : pw.length ≤ 3) (hfp : f_pendLen = nI pw.length) {post : Int32 → SY → Prop} {J : Int32 → Int32 → Prop} {x1 x4 x5 x6 : Int32} (h : J x6 (nI (a + 1))) : ∀ n p, p ≤ pw.length → pw.length < n + p → wY_add_192 post J x1 x4 x5 x6 (nI a) f_bags f_elems f_maxBasis f_maxWord f_state f_cur f_n f_atoms f_pendLen b_pend b_base b_atomLen b_atomWord b_mult b_basis b_cLen b_cBase b_cWord n 0 (nI p) := by
  intro n
  induction n with
  | zero => intro p h1 h2; omega
  | succ n ih =>
    intro p hp hn
    unfold wY_add_192
    refine pk_le pw.length p (fun g => br_t rfl (nm_r (nI_1 a) h)) (fun g => ?_) hfp rfl
    have e1 : nI a * 3 + nI p = nI (a * 3 + p) := by
      rw [show nI a * 3 = nI (a * 3) from pk_mul a 3, nI_add]
    rw [e1]
    exact ⟨vp_in_nI (by omega) (by omega), vp_in_nI (by omega) (by omega), br_c (fun _ => nm_r (nI_1 p) (ih (p + 1) (by omega) (by omega))) (fun _ => nm_r (nI_1 p) (ih (p + 1) (by omega) (by omega)))⟩
theorem ya_192_1 (hA8 : A ≤ 8) {a : Nat} (ha : a < A) (hl : pw.length ≤ 3) (hw : wd_ok pw) (hwa : wd_ok (wd a)) (hlen : (wd a).length = pw.length) (haw : ∀ p, p < (wd a).length → b_atomWord (a * 3 + p) = nI ((wd a).getD p 0)) (hfp : f_pendLen = nI pw.length) (hpd : ∀ p, p < pw.length → b_pend p = nI (pw.getD p 0)) {post : Int32 → SY → Prop} {J : Int32 → Int32 → Prop} {x1 x4 x5 x6 : Int32} (h1 : wd a = pw → J (nI a) (nI (a + 1))) (h0 : ¬ wd a = pw → J x6 (nI (a + 1))) :
    ∀ n p, p ≤ pw.length → pw.length < n + p → (∀ q, q < p → (wd a).getD q 0 = pw.getD q 0) → wY_add_192 post J x1 x4 x5 x6 (nI a) f_bags f_elems f_maxBasis f_maxWord f_state f_cur f_n f_atoms f_pendLen b_pend b_base b_atomLen b_atomWord b_mult b_basis b_cLen b_cBase b_cWord n 1 (nI p) := by
  intro n
  induction n with
  | zero => intro p h1 h2; omega
  | succ n ih =>
    intro p hp hn he
    unfold wY_add_192
    refine pk_le pw.length p (fun g => br_f (by decide) (nm_r (nI_1 a) (h1 ?_))) (fun g => ?_) hfp rfl
    · have := ch_take (p := wd a) (q := pw) (by omega) (fun i hi => he i (by omega))
      rw [hlen, List.drop_length, List.append_nil] at this
      exact this
    · have e1 : nI a * 3 + nI p = nI (a * 3 + p) := by
        rw [show nI a * 3 = nI (a * 3) from pk_mul a 3, nI_add]
      have ga : p < (wd a).length := by omega
      have s1 : (wd a).getD p 0 < 4 := by
        rw [List.getD_eq_getElem?_getD, List.getElem?_eq_getElem ga]
        exact (hwa _ (List.getElem_mem ga)).2
      have s2 : pw.getD p 0 < 4 := by
        rw [List.getD_eq_getElem?_getD, List.getElem?_eq_getElem g]
        exact (hw _ (List.getElem_mem g)).2
      rw [e1, nI_clamp (show a * 3 + p < 2 ^ 31 by omega), nI_clamp (show p < 2 ^ 31 by omega), haw p ga, hpd p g]
      refine ⟨vp_in_nI (by omega) (by omega), vp_in_nI (by omega) (by omega), pk_eq ((wd a).getD p 0) (pw.getD p 0) (fun e => nm_r (nI_1 p) (ih (p + 1) (by omega) (by omega) (fun q hq => ?_))) (fun e => nm_r (nI_1 p) (ya_192_0 hA8 ha hl hfp (h0 (fun z => e (by rw [z]))) n (p + 1) (by omega) (by omega)))⟩
      by_cases eq : q = p
      · rw [eq]; exact e
      · exact he q (by omega)
theorem ya_147 (hfd : fd_ok A cd wd) (hF : yf_A A cd wd f_atoms b_base b_atomLen b_atomWord) (hw : wd_ok pw) (hl : pw.length ≤ 3) (hfp : f_pendLen = nI pw.length) (hpd : ∀ p, p < pw.length → b_pend p = nI (pw.getD p 0)) {cc : Nat} (hcc : cc < 25) {x1 x4 : Int32} {post : Int32 → SY → Prop}
    (h1 : ∀ a, a < A → cd a = cc → wd a = pw → wY_add_264 post x1 x4 (nI cc) (nI a) f_bags f_elems f_maxBasis f_maxWord f_state f_cur f_n f_atoms f_pendLen b_pend b_base b_atomLen b_atomWord b_mult b_basis b_cLen b_cBase b_cWord) (h0 : (∀ a, a < A → ¬ (cd a = cc ∧ wd a = pw)) → A < 8 → wY_add_264 post x1 x4 (nI cc) (-1) f_bags f_elems f_maxBasis f_maxWord f_state f_cur f_n f_atoms f_pendLen b_pend b_base b_atomLen b_atomWord b_mult b_basis b_cLen b_cBase b_cWord) (h3 : (∀ a, a < A → ¬ (cd a = cc ∧ wd a = pw)) → A = 8 → post (-3) (f_bags, f_elems, f_maxBasis, f_maxWord, f_state, f_cur, f_n, f_atoms, f_pendLen, b_pend, b_base, b_atomLen, b_atomWord, b_mult, b_basis, b_cLen, b_cBase, b_cWord)) :
    ∀ n a x6, a ≤ A → A < n + a → ((x6 = -1 ∧ ∀ b, b < a → ¬ (cd b = cc ∧ wd b = pw)) ∨ (∃ a0, a0 < a ∧ cd a0 = cc ∧ wd a0 = pw ∧ x6 = nI a0)) → wY_add_147 post x1 x4 (nI cc) f_bags f_elems f_maxBasis f_maxWord f_state f_cur f_n f_atoms f_pendLen b_pend b_base b_atomLen b_atomWord b_mult b_basis b_cLen b_cBase b_cWord n x6 (nI a) := by
  have hA8 := hfd.1
  intro n
  induction n with
  | zero => intro a x6 h1 h2; omega
  | succ n ih =>
    intro a x6 ha hn hI
    unfold wY_add_147
    refine pk_le A a (fun g => ?_) (fun g => ⟨vp_in_nI (by omega) (by omega), ?_⟩) hF.1 rfl
    · rcases hI with ⟨e, hno⟩ | ⟨a0, q1, q2, q3, q4⟩
      · subst e
        exact br_f (by decide) (pk_lt A 8 (fun g8 => h0 (fun b hb => hno b (by omega)) g8) (fun g8 => h3 (fun b hb => hno b (by omega)) (by omega)) hF.1 rfl)
      · subst q4
        exact br_t (nI_pos' (by omega)) (h1 a0 (by omega) q2 q3)
    · obtain ⟨d1, d2, d3, d4, d5⟩ := hfd.2.1 a g
      obtain ⟨f1, f2, f3⟩ := hF.2 a g
      have keep : ¬ (cd a = cc ∧ wd a = pw) → wY_add_147 post x1 x4 (nI cc) f_bags f_elems f_maxBasis f_maxWord f_state f_cur f_n f_atoms f_pendLen b_pend b_base b_atomLen b_atomWord b_mult b_basis b_cLen b_cBase b_cWord n x6 (nI (a + 1)) := by
        intro hne
        refine ih (a + 1) x6 (by omega) (by omega) ?_
        rcases hI with ⟨e, hno⟩ | ⟨a0, q1, q2, q3, q4⟩
        · refine Or.inl ⟨e, fun b hb => ?_⟩
          by_cases eb : b = a
          · rw [eb]; exact hne
          · exact hno b (by omega)
        · exact Or.inr ⟨a0, by omega, q2, q3, q4⟩
      rw [nI_clamp (show a < 2 ^ 31 by omega), f1, f2]
      refine pk_eq (cd a) cc (fun e => ⟨vp_in_nI (by omega) (by omega), ?_⟩) (fun e => ⟨pw.length + 1, ya_192_0 hA8 g hl hfp (keep (fun q => e q.1)) (pw.length + 1) 0 (Nat.zero_le _) (by omega)⟩)
      refine pk_eq (wd a).length pw.length (fun e2 => ⟨pw.length + 1, ?_⟩) (fun e2 => ⟨pw.length + 1, ya_192_0 hA8 g hl hfp (keep (fun q => e2 (by rw [q.2]))) (pw.length + 1) 0 (Nat.zero_le _) (by omega)⟩) rfl hfp
      exact ya_192_1 hA8 g hl hw d5 e2 f3 hfp hpd (fun e3 => ih (a + 1) (nI a) (by omega) (by omega) (Or.inr ⟨a, by omega, e, e3, rfl⟩)) (fun e3 => keep (fun q => e3 q.2)) (pw.length + 1) 0 (Nat.zero_le _) (by omega) (fun q hq => absurd hq (Nat.not_lt_zero q))
theorem ya_335 (hA : A < 8) (hl : pw.length ≤ 3) (hfp : f_pendLen = nI pw.length) (hpd : ∀ p, p < pw.length → b_pend p = nI (pw.getD p 0)) {x1 x4 : Int32} {post : Int32 → SY → Prop} {aw0 : Nat → Int32}
    (h : ∀ aw, (∀ i, i < A * 3 → aw i = aw0 i) → (∀ p, p < pw.length → aw (A * 3 + p) = nI (pw.getD p 0)) → wY_add_388 post x1 x4 (nI A) f_bags f_elems f_maxBasis f_maxWord f_state f_cur f_n f_atoms f_pendLen b_pend b_base b_atomLen aw (upd (upd b_mult A 0) (8 + A) 0) b_basis b_cLen b_cBase b_cWord) :
    ∀ n p aw, p ≤ pw.length → pw.length < n + p → (∀ i, i < A * 3 → aw i = aw0 i) → (∀ q, q < p → aw (A * 3 + q) = nI (pw.getD q 0)) → wY_add_335 post x1 x4 (nI A) f_bags f_elems f_maxBasis f_maxWord f_state f_cur f_n f_atoms f_pendLen n (nI p) b_pend b_base b_atomLen aw b_mult b_basis b_cLen b_cBase b_cWord := by
  intro n
  induction n with
  | zero => intro p aw h1 h2; omega
  | succ n ih =>
    intro p aw hp hn h1 h2
    unfold wY_add_335
    refine pk_le pw.length p (fun g => ?_) (fun g => ⟨vp_in_nI (by omega) (by omega), ?_⟩) hfp rfl
    · rw [show (8 : Int32) + nI A = nI (8 + A) from nI_add 8 A, nI_clamp (show A < 2 ^ 31 by omega), nI_clamp (show 8 + A < 2 ^ 31 by omega)]
      exact ⟨vp_in_nI (by omega) (by omega), nm_e ⟨vp_in_nI (by omega) (by omega), nm_e (h aw h1 (fun q hq => h2 q (by omega)))⟩⟩
    · have e1 : nI A * 3 + nI p = nI (A * 3 + p) := by
        rw [show nI A * 3 = nI (A * 3) from pk_mul A 3, nI_add]
      rw [e1, nI_clamp (show A * 3 + p < 2 ^ 31 by omega), nI_clamp (show p < 2 ^ 31 by omega), hpd p g]
      refine ⟨vp_in_nI (by omega) (by omega), nm_e (nm_r (nI_1 p) (ih (p + 1) _ (by omega) (by omega) (fun i hi => ?_) (fun q hq => ?_)))⟩
      · rw [pk_un (by omega)]; exact h1 i hi
      · by_cases e : q = p
        · rw [e, pk_us]
        · rw [pk_un (by omega)]; exact h2 q (by omega)
theorem ya_118 (hfd : fd_ok A cd wd) (hF : yf_A A cd wd f_atoms b_base b_atomLen b_atomWord) (hM : yf_M A lt rt c b_mult) (hw : wd_ok pw) (hl : pw.length ≤ 3) (hfp : f_pendLen = nI pw.length) (hpd : ∀ p, p < pw.length → b_pend p = nI (pw.getD p 0)) {sd kd ix tm : Nat} (hsd : sd < 2) (hkd : kd < 3) (hcc : ad_code kd ix < 25) (htm : tm ≤ 3) {post : Int32 → SY → Prop}
    (hFo : ∀ a mu, a < A → cd a = ad_code kd ix → wd a = pw → (if sd = 0 then lt a else rt a) + tm ≤ 3 → (∀ i, i ≠ sd * 8 + a → mu i = b_mult i) → mu (sd * 8 + a) = nI ((if sd = 0 then lt a else rt a) + tm) → post (nI a) (f_bags, f_elems, f_maxBasis, f_maxWord, f_state, f_cur, f_n, f_atoms, 0, b_pend, b_base, b_atomLen, b_atomWord, mu, b_basis, b_cLen, b_cBase, b_cWord))
    (h3 : (∃ a, a < A ∧ cd a = ad_code kd ix ∧ wd a = pw ∧ 3 < (if sd = 0 then lt a else rt a) + tm) ∨ ((∀ a, a < A → ¬ (cd a = ad_code kd ix ∧ wd a = pw)) ∧ A = 8) → post (-3) (f_bags, f_elems, f_maxBasis, f_maxWord, f_state, f_cur, f_n, f_atoms, f_pendLen, b_pend, b_base, b_atomLen, b_atomWord, b_mult, b_basis, b_cLen, b_cBase, b_cWord))
    (hN : (∀ a, a < A → ¬ (cd a = ad_code kd ix ∧ wd a = pw)) → A < 8 → ∀ ba al aw mu, (∀ b, b ≠ A → ba b = b_base b ∧ al b = b_atomLen b) → (∀ i, i < A * 3 → aw i = b_atomWord i) → ba A = nI (ad_code kd ix) → al A = nI pw.length → (∀ p, p < pw.length → aw (A * 3 + p) = nI (pw.getD p 0)) → (∀ b, b < A → mu b = b_mult b ∧ mu (8 + b) = b_mult (8 + b)) → mu A = nI (if sd = 0 then tm else 0) → mu (8 + A) = nI (if sd = 0 then 0 else tm) → post (nI A) (f_bags, f_elems, f_maxBasis, f_maxWord, f_state, f_cur, f_n, nI (A + 1), 0, b_pend, ba, al, aw, mu, b_basis, b_cLen, b_cBase, b_cWord)) :
    wY_add_118 post (nI sd) (nI kd) (nI ix) (nI tm) f_bags f_elems f_maxBasis f_maxWord f_state f_cur f_n f_atoms f_pendLen b_pend b_base b_atomLen b_atomWord b_mult b_basis b_cLen b_cBase b_cWord := by
  have hA8 := hfd.1
  have ei : ∀ a, nI sd * 8 + nI a = nI (sd * 8 + a) := by
    intro a
    rw [show nI sd * 8 = nI (sd * 8) from pk_mul sd 8, nI_add]
  have hmu : ∀ a, a < A → b_mult (sd * 8 + a) = nI (if sd = 0 then lt a else rt a) ∧ (if sd = 0 then lt a else rt a) ≤ 3 := by
    intro a ha
    obtain ⟨m1, m2, m3, m4, _⟩ := hM a ha
    rcases (by omega : sd = 0 ∨ sd = 1) with z | z
    · subst z
      rw [show 0 * 8 + a = a from by omega, if_pos rfl]
      exact ⟨m1, m3⟩
    · subst z
      rw [if_neg (by omega)]
      exact ⟨m2, m4⟩
  have key : ∃ n147 : Nat, wY_add_147 post (nI sd) (nI tm) (nI (ad_code kd ix)) f_bags f_elems f_maxBasis f_maxWord f_state f_cur f_n f_atoms f_pendLen b_pend b_base b_atomLen b_atomWord b_mult b_basis b_cLen b_cBase b_cWord n147 (-1) 0 := by
    refine ⟨A + 1, ya_147 hfd hF hw hl hfp hpd hcc (fun a ha e1 e2 => ?_) (fun hno g => ?_) (fun hno e => h3 (Or.inr ⟨hno, e⟩)) (A + 1) 0 (-1) (Nat.zero_le _) (by omega) (Or.inl ⟨rfl, fun b hb => absurd hb (Nat.not_lt_zero b)⟩)⟩
    · obtain ⟨m1, m2⟩ := hmu a ha
      have im : vp_in (nI (sd * 8 + a)) 16 := vp_in_nI (by omega) (by omega)
      unfold wY_add_264
      rw [ei a, nI_clamp (show sd * 8 + a < 2 ^ 31 by omega), m1, nI_add]
      refine br_f (nI_pos (by omega)) ⟨im, pk_le ((if sd = 0 then lt a else rt a) + tm) 3 (fun g => ?_) (fun g => h3 (Or.inl ⟨a, ha, e1, e2, g⟩))⟩
      unfold wY_add_291 wY_add_388
      rw [ei a, nI_clamp (show sd * 8 + a < 2 ^ 31 by omega), m1, nI_add]
      exact br_t (nI_pos' (by omega)) ⟨im, im, nm_e (hFo a _ ha e1 e2 g (fun i hi => pk_un hi) pk_us)⟩
    · have ia : vp_in f_atoms 8 := by rw [hF.1]; exact vp_in_nI g (by omega)
      have ca : f_atoms.toNatClampNeg = A := by rw [hF.1]; exact nI_clamp (by omega)
      unfold wY_add_264
      refine br_t (by decide) ?_
      unfold wY_add_291
      rw [ca]
      refine br_f (by decide) (nm_r (e' := nI (A + 1)) (by rw [hF.1, nI_1]) ⟨ia, nm_e ⟨ia, nm_e ⟨pw.length + 1, ?_⟩⟩⟩)
      have h335 := ya_335 (A := A) (pw := pw) (f_bags := f_bags) (f_elems := f_elems) (f_maxBasis := f_maxBasis) (f_maxWord := f_maxWord) (f_state := f_state) (f_cur := f_cur) (f_n := f_n) (f_atoms := nI (A + 1)) (f_pendLen := f_pendLen) (b_pend := b_pend) (b_base := upd b_base A (nI (ad_code kd ix))) (b_atomLen := upd b_atomLen A f_pendLen) (b_mult := b_mult) (b_basis := b_basis) (b_cLen := b_cLen) (b_cBase := b_cBase) (b_cWord := b_cWord) g hl hfp hpd (x1 := nI sd) (x4 := nI tm) (post := post) (aw0 := b_atomWord) (fun aw w1 w2 => ?_) (pw.length + 1) 0 b_atomWord (Nat.zero_le _) (by omega) (fun _ _ => rfl) (fun q hq => absurd hq (Nat.not_lt_zero q))
      · rw [← hF.1] at h335
        exact h335
      · unfold wY_add_388
        rw [ei A, nI_clamp (show sd * 8 + A < 2 ^ 31 by omega)]
        have im : vp_in (nI (sd * 8 + A)) 16 := vp_in_nI (by omega) (by omega)
        have ez : upd (upd b_mult A 0) (8 + A) 0 (sd * 8 + A) = 0 := by
          rcases (by omega : sd = 0 ∨ sd = 1) with z | z
          · subst z
            rw [show 0 * 8 + A = A from by omega, pk_un (by omega), pk_us]
          · subst z
            exact pk_us
        rw [ez, Int32.zero_add]
        refine ⟨im, im, nm_e (hN hno g _ _ aw _ (fun b hb => ⟨pk_un hb, pk_un hb⟩) w1 pk_us (by rw [pk_us]; exact hfp) w2 (fun b hb => ?_) ?_ ?_)⟩
        · rw [pk_un (by omega), pk_un (by omega), pk_un (by omega), pk_un (by omega), pk_un (by omega), pk_un (by omega)]
          exact ⟨rfl, rfl⟩
        · rcases (by omega : sd = 0 ∨ sd = 1) with z | z
          · subst z
            rw [show 0 * 8 + A = A from by omega, pk_us, if_pos rfl]
          · subst z
            rw [pk_un (by omega), pk_un (by omega), pk_us, if_neg (by omega)]
            rfl
        · rcases (by omega : sd = 0 ∨ sd = 1) with z | z
          · subst z
            rw [pk_un (by omega), pk_us, if_pos rfl]
            rfl
          · subst z
            rw [show 1 * 8 + A = 8 + A from by omega, pk_us, if_neg (by omega)]
  unfold wY_add_118
  rcases (by omega : kd = 0 ∨ kd = 1 ∨ kd = 2) with z | z | z
  · subst z
    refine br_f (by decide) (br_t rfl (nm_r (e' := nI (ad_code 0 ix)) (nI_add 20 ix) key))
  · subst z
    exact br_f (by decide) (br_f (by decide) key)
  · subst z
    exact br_t rfl (nm_r (e' := nI (ad_code 2 ix)) (nI_add 4 ix) (br_f (by decide) key))
end YE
end
section
/-! add: the call -/
theorem re_A_times {A : Nat} {cd lt rt lt' rt' : Nat → Nat} {wd : Nat → List Nat} {fa : Int32} {ac aw le ri ba al bw mu le' ri' mu' : Nat → Int32} (h : re_A A cd lt rt wd fa ac aw le ri ba al bw mu) (hx : ∀ b, b < A → le' b = nI (lt' b) ∧ ri' b = nI (rt' b) ∧ mu' b = nI (lt' b) ∧ mu' (8 + b) = nI (rt' b) ∧ lt' b ≤ 3 ∧ rt' b ≤ 3) : re_A A cd lt' rt' wd fa ac aw le' ri' ba al bw mu' := by
  obtain ⟨h1, h2, h3, h4⟩ := h
  refine ⟨h1, fun a ha => ⟨(h2 a ha).1, (h2 a ha).2.1, (hx a ha).1, (hx a ha).2.1⟩, h3, fun a ha => ⟨(hx a ha).2.2.1, (hx a ha).2.2.2.1, (hx a ha).2.2.2.2.1, (hx a ha).2.2.2.2.2, rfl⟩⟩
theorem re_A_new {A : Nat} {cd lt rt : Nat → Nat} {wd : Nat → List Nat} {fa : Int32} {ac aw le ri ba al bw mu ac' aw' le' ri' ba' al' bw' mu' : Nat → Int32} (h : re_A A cd lt rt wd fa ac aw le ri ba al bw mu) (hA : A < 8) {cc x y : Nat} {pw : List Nat} (c1 : cc < 25) (c2 : cc < 20 → cc < 8) (c3 : 20 ≤ cc → pw = []) (c4 : pw.length ≤ 3) (c5 : wd_ok pw) (hno : ∀ a, a < A → ¬ (cd a = cc ∧ wd a = pw)) (hx3 : x ≤ 3) (hy3 : y ≤ 3)
    (k1 : ∀ b, b ≠ A → ac' b = ac b ∧ aw' b = aw b ∧ le' b = le b ∧ ri' b = ri b) (k2 : ∀ b, b ≠ A → ba' b = ba b ∧ al' b = al b) (k3 : ∀ i, i < A * 3 → bw' i = bw i) (k4 : ∀ b, b < A → mu' b = mu b ∧ mu' (8 + b) = mu (8 + b))
    (n1 : ac' A = nI cc) (n2 : aw' A = nI (wd_p pw)) (n3 : le' A = nI x) (n4 : ri' A = nI y) (n5 : ba' A = nI cc) (n6 : al' A = nI pw.length) (n7 : ∀ p, p < pw.length → bw' (A * 3 + p) = nI (pw.getD p 0)) (n8 : mu' A = nI x) (n9 : mu' (8 + A) = nI y) :
    re_A (A + 1) (fun b => if b = A then cc else cd b) (fun b => if b = A then x else lt b) (fun b => if b = A then y else rt b) (fun b => if b = A then pw else wd b) (nI (A + 1)) ac' aw' le' ri' ba' al' bw' mu' := by
  obtain ⟨h1, h2, h3, h4⟩ := h
  obtain ⟨f1, f2, f3⟩ := h1
  refine ⟨⟨by omega, fun a ha => ?_, fun a b ha hb e1 e2 => ?_⟩, fun a ha => ?_, ⟨rfl, fun a ha => ?_⟩, fun a ha => ?_⟩
  · dsimp only
    by_cases e : a = A
    · simp only [if_pos e]; exact ⟨c1, c2, c3, c4, c5⟩
    · simp only [if_neg e]; exact f2 a (by omega)
  · dsimp only at e1 e2
    by_cases ea : a = A
    · by_cases eb : b = A
      · omega
      · simp only [if_pos ea, if_neg eb] at e1 e2
        exact absurd ⟨e1.symm, e2.symm⟩ (hno b (by omega))
    · by_cases eb : b = A
      · simp only [if_neg ea, if_pos eb] at e1 e2
        exact absurd ⟨e1, e2⟩ (hno a (by omega))
      · simp only [if_neg ea, if_neg eb] at e1 e2
        exact f3 a b (by omega) (by omega) e1 e2
  · dsimp only
    by_cases e : a = A
    · simp only [if_pos e]
      rw [e]
      exact ⟨n1, n2, n3, n4⟩
    · simp only [if_neg e]
      obtain ⟨q1, q2, q3, q4⟩ := k1 a e
      rw [q1, q2, q3, q4]
      exact h2 a (by omega)
  · dsimp only
    by_cases e : a = A
    · simp only [if_pos e]
      rw [e]
      exact ⟨n5, n6, n7⟩
    · simp only [if_neg e]
      obtain ⟨q1, q2⟩ := k2 a e
      obtain ⟨r1, r2, r3⟩ := h3.2 a (by omega)
      have h3l := (f2 a (by omega)).2.2.2.1
      rw [q1, q2]
      exact ⟨r1, r2, fun p hp => by rw [k3 (a * 3 + p) (by omega)]; exact r3 p hp⟩
  · dsimp only
    by_cases e : a = A
    · simp only [re_c, if_pos e]
      rw [e]
      exact ⟨n8, n9, hx3, hy3, by trivial⟩
    · simp only [re_c, if_neg e]
      obtain ⟨q1, q2⟩ := k4 a (by omega)
      obtain ⟨m1, m2, m3, m4, m5⟩ := h4 a (by omega)
      rw [q1, q2]
      exact ⟨m1, m2, m3, m4, by trivial⟩
theorem i_vc_add {k : Nat} {u : SX} {v : SY} (I : i_Rel k u v) (hk : k + 5 ≤ 2564) (v1 : Int32) (v2 : Int32) (v3 : Int32) (v4 : Int32) : wpX_add (fun r u' => wpY_add (fun r' v' => r' = r ∧ i_Rel (k + 5) u' v') v v1 v2 v3 v4) u v1 v2 v3 v4 := by
  refine re_el (P := fun u v => wpX_add (fun r u' => wpY_add (fun r' v' => r' = r ∧ i_Rel (k + 5) u' v') v v1 v2 v3 v4) u v1 v2 v3 v4) ?_ I
  intro f_bags f_elems f_maxBasis f_maxWord f_stage f_currentMask f_pendingWord f_pendingLength f_atoms f_boxSize f_liveSet f_elementSet f_frontierEnd f_basisSize f_knownCount f_trailSize a_atomCode a_atomWord a_leftTimes a_rightTimes a_coefficient a_fieldCap a_fieldShift a_seen a_frontierCode a_frontierDefect a_basisCode a_cover a_choice a_covered a_trailMark a_nodeSymbol a_nodeChild a_atomNode a_parent a_weight a_shape a_least a_trailNode a_trailShape a_trailLeast a_thingBase a_thingWord f_cur f_n f_pendLen b_pend b_base b_atomLen b_atomWord b_mult b_basis b_cLen b_cBase b_cWord hR J
  refine br_c (fun s0 => ?_) (fun s0 => br_f s0 ⟨rfl, J⟩)
  obtain ⟨bg, el, MB, MW, A, cd, lt, rt, wd, pw, L, hC, hP, hA, hU, hS⟩ := hR
  have hC' := hC
  have hA' := hA
  obtain ⟨c1, c2, c3, c4, c5, c6, c7, c8, c9, c10⟩ := hC'
  obtain ⟨p1, p2, p3, p4, p5, p6⟩ := hP
  obtain ⟨a1, a2, a3, a4⟩ := hA'
  have hA8 := a1.1
  by_cases hv1 : v1 = 0 ∨ v1 = 1
  · by_cases hv2 : v2 = 0 ∨ v2 = 1 ∨ v2 = 2
    · have goX : ∀ (post : Int32 → SX → Prop), wX_add_38 post v1 v2 v3 v4 f_bags f_elems f_maxBasis f_maxWord f_stage f_currentMask f_pendingWord f_pendingLength f_atoms f_boxSize f_liveSet f_elementSet f_frontierEnd f_basisSize f_knownCount f_trailSize a_atomCode a_atomWord a_leftTimes a_rightTimes a_coefficient a_fieldCap a_fieldShift a_seen a_frontierCode a_frontierDefect a_basisCode a_cover a_choice a_covered a_trailMark a_nodeSymbol a_nodeChild a_atomNode a_parent a_weight a_shape a_least a_trailNode a_trailShape a_trailLeast a_thingBase a_thingWord → ((v1 = 0 → wX_add_21 post v1 v2 v3 v4 f_bags f_elems f_maxBasis f_maxWord f_stage f_currentMask f_pendingWord f_pendingLength f_atoms f_boxSize f_liveSet f_elementSet f_frontierEnd f_basisSize f_knownCount f_trailSize a_atomCode a_atomWord a_leftTimes a_rightTimes a_coefficient a_fieldCap a_fieldShift a_seen a_frontierCode a_frontierDefect a_basisCode a_cover a_choice a_covered a_trailMark a_nodeSymbol a_nodeChild a_atomNode a_parent a_weight a_shape a_least a_trailNode a_trailShape a_trailLeast a_thingBase a_thingWord) ∧ (¬ v1 = 0 → ((v1 = 1 → wX_add_21 post v1 v2 v3 v4 f_bags f_elems f_maxBasis f_maxWord f_stage f_currentMask f_pendingWord f_pendingLength f_atoms f_boxSize f_liveSet f_elementSet f_frontierEnd f_basisSize f_knownCount f_trailSize a_atomCode a_atomWord a_leftTimes a_rightTimes a_coefficient a_fieldCap a_fieldShift a_seen a_frontierCode a_frontierDefect a_basisCode a_cover a_choice a_covered a_trailMark a_nodeSymbol a_nodeChild a_atomNode a_parent a_weight a_shape a_least a_trailNode a_trailShape a_trailLeast a_thingBase a_thingWord) ∧ (¬ v1 = 1 → post (-2) (f_bags, f_elems, f_maxBasis, f_maxWord, f_stage, f_currentMask, f_pendingWord, f_pendingLength, f_atoms, f_boxSize, f_liveSet, f_elementSet, f_frontierEnd, f_basisSize, f_knownCount, f_trailSize, a_atomCode, a_atomWord, a_leftTimes, a_rightTimes, a_coefficient, a_fieldCap, a_fieldShift, a_seen, a_frontierCode, a_frontierDefect, a_basisCode, a_cover, a_choice, a_covered, a_trailMark, a_nodeSymbol, a_nodeChild, a_atomNode, a_parent, a_weight, a_shape, a_least, a_trailNode, a_trailShape, a_trailLeast, a_thingBase, a_thingWord))))) := by
        intro post h38
        have h21 : wX_add_21 post v1 v2 v3 v4 f_bags f_elems f_maxBasis f_maxWord f_stage f_currentMask f_pendingWord f_pendingLength f_atoms f_boxSize f_liveSet f_elementSet f_frontierEnd f_basisSize f_knownCount f_trailSize a_atomCode a_atomWord a_leftTimes a_rightTimes a_coefficient a_fieldCap a_fieldShift a_seen a_frontierCode a_frontierDefect a_basisCode a_cover a_choice a_covered a_trailMark a_nodeSymbol a_nodeChild a_atomNode a_parent a_weight a_shape a_least a_trailNode a_trailShape a_trailLeast a_thingBase a_thingWord := by
          unfold wX_add_21
          exact br_c (fun _ => h38) (fun n0 => br_c (fun _ => h38) (fun n1 => br_c (fun _ => h38) (fun n2 => by rcases hv2 with q | q | q <;> contradiction)))
        exact br_c (fun _ => h21) (fun n0 => br_c (fun _ => h21) (fun n1 => by rcases hv1 with q | q <;> contradiction))
      have goY : ∀ (post : Int32 → SY → Prop), wY_add_38 post v1 v2 v3 v4 f_bags f_elems f_maxBasis f_maxWord f_stage f_cur f_n f_atoms f_pendLen b_pend b_base b_atomLen b_atomWord b_mult b_basis b_cLen b_cBase b_cWord → wpY_add post (f_bags, f_elems, f_maxBasis, f_maxWord, f_stage, f_cur, f_n, f_atoms, f_pendLen, b_pend, b_base, b_atomLen, b_atomWord, b_mult, b_basis, b_cLen, b_cBase, b_cWord) v1 v2 v3 v4 := by
        intro post h38
        have h21 : wY_add_21 post v1 v2 v3 v4 f_bags f_elems f_maxBasis f_maxWord f_stage f_cur f_n f_atoms f_pendLen b_pend b_base b_atomLen b_atomWord b_mult b_basis b_cLen b_cBase b_cWord := by
          unfold wY_add_21
          exact br_c (fun _ => h38) (fun n0 => br_c (fun _ => h38) (fun n1 => br_c (fun _ => h38) (fun n2 => by rcases hv2 with q | q | q <;> contradiction)))
        exact br_t s0 (br_c (fun _ => h21) (fun n0 => br_c (fun _ => h21) (fun n1 => by rcases hv1 with q | q <;> contradiction)))
      have epl : f_pendingLength = f_pendLen := p4.trans p5.symm
      refine goX _ (xa_38 hv2 (fun hb => goY _ (ya_38 hv2 p2 p5 (fun _ => ⟨rfl, J⟩) (fun hg => absurd (by rw [epl]; exact hg) hb))) (fun hg => ?_))
      have hg' : ad_c v2 v3 v4 f_bags f_elems f_pendLen := by rw [← epl]; exact hg
      obtain ⟨g1, g2, g3, g4, g5⟩ := hg
      obtain ⟨sd, hsd, esd⟩ : ∃ sd, sd < 2 ∧ v1 = nI sd := by
        rcases hv1 with q | q
        · exact ⟨0, by omega, q⟩
        · exact ⟨1, by omega, q⟩
      obtain ⟨kd, hkd, ekd⟩ : ∃ kd, kd < 3 ∧ v2 = nI kd := by
        rcases hv2 with q | q | q
        · exact ⟨0, by omega, q⟩
        · exact ⟨1, by omega, q⟩
        · exact ⟨2, by omega, q⟩
      obtain ⟨ix, hix, eix⟩ := nI_of g1
      have hv4 : ¬ v4 < 0 := fun z => g3 (by rw [Int32.lt_iff_toInt_lt] at z ⊢; rw [show (0 : Int32).toInt = 0 from by decide] at z; rw [show (1 : Int32).toInt = 1 from by decide]; omega)
      obtain ⟨tm, htm, etm⟩ := nI_of hv4
      subst esd ekd eix etm
      have tm3 : tm ≤ 3 := (nI_leI (b := 3) htm (by omega)).mp g4
      have hcode : ad_code kd ix < 25 ∧ (ad_code kd ix < 20 → ad_code kd ix < 8) ∧ (20 ≤ ad_code kd ix → pw = []) := by
        rcases (by omega : kd = 0 ∨ kd = 1 ∨ kd = 2) with z | z | z
        · subst z
          have el0 : ad_lim (nI 0) f_bags f_elems = f_bags := if_pos rfl
          rw [el0, c1] at g2
          have := (nI_ltI hix (by omega)).mp g2
          have e : ad_code 0 ix = 20 + ix := rfl
          rw [e]
          refine ⟨by omega, fun z => by omega, fun _ => ?_⟩
          have := g5 rfl
          rw [p4] at this
          exact List.eq_nil_of_length_eq_zero ((ib_0 (by omega)).mp this)
        · subst z
          have el1 : ad_lim (nI 1) f_bags f_elems = f_elems := by unfold ad_lim; rw [if_neg (by decide), if_pos (show nI 1 = 1 from rfl)]
          rw [el1, c4] at g2
          have := (nI_ltI hix (by omega)).mp g2
          have e : ad_code 1 ix = ix := rfl
          rw [e]
          exact ⟨by omega, fun z => by omega, fun z => by omega⟩
        · subst z
          have el2 : ad_lim (nI 2) f_bags f_elems = 4 := by unfold ad_lim; rw [if_neg (by decide), if_neg (by decide)]
          rw [el2] at g2
          have := (nI_ltI (b := 4) hix (by omega)).mp g2
          have e : ad_code 2 ix = 4 + ix := rfl
          rw [e]
          exact ⟨by omega, fun z => by omega, fun z => by omega⟩
      have goY2 : ∀ (post : Int32 → SY → Prop), wY_add_118 post (nI sd) (nI kd) (nI ix) (nI tm) f_bags f_elems f_maxBasis f_maxWord f_stage f_cur f_n f_atoms f_pendLen b_pend b_base b_atomLen b_atomWord b_mult b_basis b_cLen b_cBase b_cWord → wpY_add post (f_bags, f_elems, f_maxBasis, f_maxWord, f_stage, f_cur, f_n, f_atoms, f_pendLen, b_pend, b_base, b_atomLen, b_atomWord, b_mult, b_basis, b_cLen, b_cBase, b_cWord) (nI sd) (nI kd) (nI ix) (nI tm) := fun post h => goY post (ya_38 hv2 p2 p5 (fun hb => absurd hg' hb) (fun _ => h))
      have pend0 : re_P [] 0 0 0 b_pend := ⟨wd_ok_nil, Nat.zero_le _, rfl, rfl, rfl, fun p hp => absurd hp (Nat.not_lt_zero p)⟩
      have t3 : ∀ a, a < A → lt a ≤ 3 ∧ rt a ≤ 3 := fun a ha => ⟨(a4 a ha).2.2.1, (a4 a ha).2.2.2.1⟩
      refine xa_87 (lt := lt) (rt := rt) a1 a3.1 (fun a ha => ⟨(a2 a ha).1, (a2 a ha).2.1, (a2 a ha).2.2.1, (a2 a ha).2.2.2, (t3 a ha).1, (t3 a ha).2⟩) p1 p2 p3 hsd hkd hcode.1 tm3 ?_ ?_ ?_
      · intro a le ri ha e1 e2 hle hk1 hk2 hk3
        refine goY2 _ (ya_118 a1 a3 a4 p1 p2 p5 p6 hsd hkd hcode.1 tm3 (fun a' mu ha' e1' e2' hle' m1 m2 => ?_) (fun hor => ?_) (fun hno _ => absurd ⟨e1, e2⟩ (hno a ha)))
        · have ea : a' = a := a1.2.2 a' a ha' ha (e1'.trans e1.symm) (e2'.trans e2.symm)
          subst ea
          refine ⟨rfl, re_in ⟨bg, el, MB, MW, A, cd, fun b => if b = a' then (if sd = 0 then lt a' + tm else lt a') else lt b, fun b => if b = a' then (if sd = 0 then rt a' else rt a' + tm) else rt b, wd, [], L, hC, pend0, re_A_times hA (fun b hb => ?_), hU, fun z => absurd s0 z⟩⟩
          obtain ⟨q1, q2, q3, q4, _⟩ := a4 b hb
          obtain ⟨t1, t2⟩ := t3 b hb
          by_cases eb : b = a'
          · subst eb
            simp only [if_pos rfl]
            rcases (by omega : sd = 0 ∨ sd = 1) with z | z
            · subst z
              simp only [if_pos rfl] at hk2 hk3 hle m2 ⊢
              refine ⟨hk2, hk3, ?_, ?_, hle, t2⟩
              · have : mu (0 * 8 + b) = nI (lt b + tm) := m2
                rw [show 0 * 8 + b = b from by omega] at this
                exact this
              · rw [m1 (8 + b) (by omega)]; exact q2
            · subst z
              simp only [if_neg (show ¬ (1 = 0) by omega)] at hk2 hk3 hle m2 ⊢
              refine ⟨hk2, hk3, ?_, m2, t1, hle⟩
              rw [m1 b (by omega)]; exact q1
          · simp only [if_neg eb]
            refine ⟨(hk1 b eb).1.trans (a2 b hb).2.2.1, (hk1 b eb).2.trans (a2 b hb).2.2.2, ?_, ?_, t1, t2⟩
            · rw [m1 b (by rcases (by omega : sd = 0 ∨ sd = 1) with z | z <;> omega)]; exact q1
            · rw [m1 (8 + b) (by rcases (by omega : sd = 0 ∨ sd = 1) with z | z <;> omega)]; exact q2
        · rcases hor with ⟨a', ha', e1', e2', h3'⟩ | ⟨hno, _⟩
          · have ea : a' = a := a1.2.2 a' a ha' ha (e1'.trans e1.symm) (e2'.trans e2.symm)
            subst ea
            exact absurd hle (by omega)
          · exact absurd ⟨e1, e2⟩ (hno a ha)
      · intro hor
        refine goY2 _ (ya_118 a1 a3 a4 p1 p2 p5 p6 hsd hkd hcode.1 tm3 (fun a' mu ha' e1' e2' hle' _ _ => ?_) (fun _ => ⟨rfl, J⟩) (fun hno hA8' => ?_))
        · rcases hor with ⟨a, ha, e1, e2, h3'⟩ | ⟨hno, _⟩
          · have ea : a' = a := a1.2.2 a' a ha' ha (e1'.trans e1.symm) (e2'.trans e2.symm)
            subst ea
            exact absurd hle' (by omega)
          · exact absurd ⟨e1', e2'⟩ (hno a' ha')
        · rcases hor with ⟨a, ha, e1, e2, _⟩ | ⟨_, e8⟩
          · exact absurd ⟨e1, e2⟩ (hno a ha)
          · omega
      · intro hno hlt8 ac aw le ri k1 n1 n2 n3 n4
        refine goY2 _ (ya_118 a1 a3 a4 p1 p2 p5 p6 hsd hkd hcode.1 tm3 (fun a' mu ha' e1' e2' _ _ _ => absurd ⟨e1', e2'⟩ (hno a' ha')) (fun hor => ?_) (fun _ _ ba al bw mu j1 j2 j3 j4 j5 j6 j7 j8 => ⟨rfl, re_in ⟨bg, el, MB, MW, A + 1, _, _, _, _, [], L, hC, pend0, re_A_new hA hlt8 hcode.1 hcode.2.1 hcode.2.2 p2 p1 hno (by split <;> omega) (by split <;> omega) k1 j1 j2 j6 n1 n2 n3 n4 j3 j4 j5 j7 j8, hU, fun z => absurd s0 z⟩⟩))
        rcases hor with ⟨a, ha, e1, e2, _⟩ | ⟨_, e8⟩
        · exact absurd ⟨e1, e2⟩ (hno a ha)
        · omega
    · have m0 : ¬ v2 = 0 := fun q => hv2 (Or.inl q)
      have m1 : ¬ v2 = 1 := fun q => hv2 (Or.inr (Or.inl q))
      have m2 : ¬ v2 = 2 := fun q => hv2 (Or.inr (Or.inr q))
      rcases hv1 with q | q
      · exact br_t q (br_f m0 (br_f m1 (br_f m2 (br_t s0 (br_t q (br_f m0 (br_f m1 (br_f m2 ⟨rfl, J⟩))))))))
      · have q0 : ¬ v1 = 0 := by rw [q]; decide
        exact br_f q0 (br_t q (br_f m0 (br_f m1 (br_f m2 (br_t s0 (br_f q0 (br_t q (br_f m0 (br_f m1 (br_f m2 ⟨rfl, J⟩))))))))))
  · have n0 : ¬ v1 = 0 := fun q => hv1 (Or.inl q)
    have n1 : ¬ v1 = 1 := fun q => hv1 (Or.inr q)
    exact br_f n0 (br_f n1 (br_t s0 (br_f n0 (br_f n1 ⟨rfl, J⟩))))
end
section
/-! the constructors -/
def re_cl (p lo hi : Int32) : Int32 := if lo ≤ p then (if p ≤ hi then p else hi) else lo
theorem re_cl_n (p : Int32) {a b : Nat} (hab : a ≤ b) (hb : b < 2 ^ 31) : ∃ n, a ≤ n ∧ n ≤ b ∧ re_cl p (nI a) (nI b) = nI n := by
  unfold re_cl
  by_cases h1 : nI a ≤ p
  · rw [if_pos h1]
    by_cases h2 : p ≤ nI b
    · rw [if_pos h2]
      have h0 : ¬ p < 0 := by
        have := nI_pos' (n := a) (by omega)
        exact Int32.not_lt.mpr (Int32.le_trans this h1)
      obtain ⟨j, hj, rfl⟩ := nI_of h0
      exact ⟨j, (nI_leI (by omega) hj).mp h1, (nI_leI hj hb).mp h2, rfl⟩
    · rw [if_neg h2]; exact ⟨b, hab, Nat.le_refl _, rfl⟩
  · rw [if_neg h1]; exact ⟨a, Nat.le_refl _, hab, rfl⟩
theorem xi_cl {post : Int32 → Prop} {u : SX} {p lo hi : Int32} (h : post (re_cl p lo hi)) : wpX_clamp post u p lo hi := by
  obtain ⟨f_bags, f_elems, f_maxBasis, f_maxWord, f_stage, f_currentMask, f_pendingWord, f_pendingLength, f_atoms, f_boxSize, f_liveSet, f_elementSet, f_frontierEnd, f_basisSize, f_knownCount, f_trailSize, a_atomCode, a_atomWord, a_leftTimes, a_rightTimes, a_coefficient, a_fieldCap, a_fieldShift, a_seen, a_frontierCode, a_frontierDefect, a_basisCode, a_cover, a_choice, a_covered, a_trailMark, a_nodeSymbol, a_nodeChild, a_atomNode, a_parent, a_weight, a_shape, a_least, a_trailNode, a_trailShape, a_trailLeast, a_thingBase, a_thingWord⟩ := u
  unfold re_cl at h
  refine br_c (fun h1 => ?_) (fun h1 => ?_)
  · rw [if_pos h1] at h
    refine br_c (fun h2 => ?_) (fun h2 => ?_)
    · rw [if_pos h2] at h; exact h
    · rw [if_neg h2] at h; exact h
  · rw [if_neg h1] at h; exact h
theorem yi_cl {post : Int32 → Prop} {u : SY} {p lo hi : Int32} (h : post (re_cl p lo hi)) : wpY_clamp post u p lo hi := by
  obtain ⟨f_bags, f_elems, f_maxBasis, f_maxWord, f_state, f_cur, f_n, f_atoms, f_pendLen, b_pend, b_base, b_atomLen, b_atomWord, b_mult, b_basis, b_cLen, b_cBase, b_cWord⟩ := u
  unfold re_cl at h
  refine br_c (fun h1 => ?_) (fun h1 => ?_)
  · rw [if_pos h1] at h
    refine br_c (fun h2 => ?_) (fun h2 => ?_)
    · rw [if_pos h2] at h; exact h
    · rw [if_neg h2] at h; exact h
  · rw [if_neg h1] at h; exact h
section XI
variable {f_bags f_elems f_maxBasis f_maxWord f_stage f_currentMask f_pendingWord f_pendingLength f_atoms f_boxSize f_liveSet f_elementSet f_frontierEnd f_basisSize f_knownCount f_trailSize : Int32} {a_atomCode a_atomWord a_leftTimes a_rightTimes a_coefficient a_fieldCap a_fieldShift a_seen a_frontierCode a_frontierDefect a_basisCode a_cover a_choice a_covered a_trailMark a_nodeSymbol a_nodeChild a_atomNode a_parent a_weight a_shape a_least a_trailNode a_trailShape a_trailLeast a_thingBase : Nat → Int32} {a_thingWord : Nat → Int64}
theorem xi_loop {post : SX → Prop} (h : ∀ pa we sh le, (∀ x, x < 40 → pa x = nI x ∧ sh x = xu_s (uf_sh [] x) ∧ le x = nI (uf_ls [] x)) → post (f_bags, f_elems, f_maxBasis, f_maxWord, 0, 0, 0, 0, 0, f_boxSize, f_liveSet, f_elementSet, f_frontierEnd, 0, -1, 0, a_atomCode, a_atomWord, a_leftTimes, a_rightTimes, a_coefficient, a_fieldCap, a_fieldShift, a_seen, a_frontierCode, a_frontierDefect, a_basisCode, a_cover, a_choice, a_covered, a_trailMark, a_nodeSymbol, a_nodeChild, a_atomNode, pa, we, sh, le, a_trailNode, a_trailShape, a_trailLeast, a_thingBase, a_thingWord)) :
    ∀ n i pa we sh le, i ≤ 40 → 40 < n + i → (∀ x, x < i → pa x = nI x ∧ sh x = xu_s (uf_sh [] x) ∧ le x = nI (uf_ls [] x)) → wX_init_272 post f_bags f_elems f_maxBasis f_maxWord f_stage f_currentMask f_pendingWord f_pendingLength f_atoms f_boxSize f_liveSet f_elementSet f_frontierEnd f_basisSize f_knownCount f_trailSize n (nI i) a_atomCode a_atomWord a_leftTimes a_rightTimes a_coefficient a_fieldCap a_fieldShift a_seen a_frontierCode a_frontierDefect a_basisCode a_cover a_choice a_covered a_trailMark a_nodeSymbol a_nodeChild a_atomNode pa we sh le a_trailNode a_trailShape a_trailLeast a_thingBase a_thingWord := by
  intro n
  induction n with
  | zero => intro i pa we sh le h1 h2; omega
  | succ n ih =>
    intro i pa we sh le hi hn hI
    unfold wX_init_272
    refine pk_le 40 i (fun g => h pa we sh le (fun x hx => hI x (by omega))) (fun g => ?_)
    have ii : vp_in (nI i) 40 := vp_in_nI g (by omega)
    have ci : (nI i).toNatClampNeg = i := nI_clamp (by omega)
    have next : ∀ s l, s = xu_s (uf_sh [] i) → l = nI (uf_ls [] i) → wX_init_272 post f_bags f_elems f_maxBasis f_maxWord f_stage f_currentMask f_pendingWord f_pendingLength f_atoms f_boxSize f_liveSet f_elementSet f_frontierEnd f_basisSize f_knownCount f_trailSize n (nI (i + 1)) a_atomCode a_atomWord a_leftTimes a_rightTimes a_coefficient a_fieldCap a_fieldShift a_seen a_frontierCode a_frontierDefect a_basisCode a_cover a_choice a_covered a_trailMark a_nodeSymbol a_nodeChild a_atomNode (upd pa i (nI i)) (upd we i 1) (upd sh i s) (upd le i l) a_trailNode a_trailShape a_trailLeast a_thingBase a_thingWord := by
      intro s l hs hl
      refine ih (i + 1) _ _ _ _ (by omega) (by omega) (fun x hx => ?_)
      by_cases e : x = i
      · subst e
        rw [pk_us, pk_us, pk_us]
        exact ⟨rfl, hs, hl⟩
      · rw [pk_un e, pk_un e, pk_un e]
        exact hI x (by omega)
    have plain : ¬ (32 ≤ i ∧ i < 36) → wX_init_297 post (wX_init_272 post f_bags f_elems f_maxBasis f_maxWord f_stage f_currentMask f_pendingWord f_pendingLength f_atoms f_boxSize f_liveSet f_elementSet f_frontierEnd f_basisSize f_knownCount f_trailSize n) (nI i) f_bags f_elems f_maxBasis f_maxWord f_stage f_currentMask f_pendingWord f_pendingLength f_atoms f_boxSize f_liveSet f_elementSet f_frontierEnd f_basisSize f_knownCount f_trailSize a_atomCode a_atomWord a_leftTimes a_rightTimes a_coefficient a_fieldCap a_fieldShift a_seen a_frontierCode a_frontierDefect a_basisCode a_cover a_choice a_covered a_trailMark a_nodeSymbol a_nodeChild a_atomNode pa we sh le a_trailNode a_trailShape a_trailLeast a_thingBase a_thingWord := by
      intro hno
      have e1 : uf_sh [] i = i := if_neg hno
      have e2 : uf_ls [] i = 4 := if_neg hno
      unfold wX_init_297 wX_init_298 wX_init_334
      rw [ci]
      exact ⟨ii, nm_e ⟨ii, nm_e (br_t rfl ⟨ii, nm_e (br_t rfl ⟨ii, nm_e (nm_r (nI_1 i) (next _ _ (by rw [e1, xu_s_lt g]) (by rw [e2]; rfl)))⟩)⟩)⟩⟩
    refine pk_lt i 32 (fun g2 => plain (fun q => by omega)) (fun g2 => pk_le 36 i (fun g3 => plain (fun q => by omega)) (fun g3 => ?_))
    have e1 : uf_sh [] i = 40 := if_pos ⟨g2, g3⟩
    have e2 : uf_ls [] i = i - 32 := if_pos ⟨g2, g3⟩
    unfold wX_init_298 wX_init_334
    rw [ci]
    have e3 : nI i - 32 = nI (i - 32) := pk_sub (a := i) (b := 32) g2
    rw [e3]
    exact ⟨ii, nm_e ⟨ii, nm_e (br_f (by decide) ⟨ii, nm_e (br_f (by decide) ⟨ii, nm_e (nm_r (nI_1 i) (next _ _ (by rw [e1]; exact (xu_s_40 (by omega)).symm) (by rw [e2])))⟩)⟩)⟩⟩
end XI
theorem i_vc0 (k0 : Int32) (k1 : Int32) (k2 : Int32) (k3 : Int32) : wpX_init (fun u => wpY_init (fun v => i_Rel 4 u v) k0 k1 k2 k3) k0 k1 k2 k3 := by
  obtain ⟨bg, b1, b2, b3⟩ := re_cl_n k0 (a := 1) (b := 5) (by omega) (by omega)
  obtain ⟨el, l1, l2, l3⟩ := re_cl_n k1 (a := 0) (b := 4) (by omega) (by omega)
  obtain ⟨MB, m1, m2, m3⟩ := re_cl_n k2 (a := 4) (b := 12) (by omega) (by omega)
  obtain ⟨MW, w1, w2, w3⟩ := re_cl_n k3 (a := 0) (b := 3) (by omega) (by omega)
  unfold wpX_init
  refine xi_cl (xi_cl (xi_cl (xi_cl ⟨41, ?_⟩)))
  refine xi_loop (fun pa we sh le hI => ?_) 41 0 _ _ _ _ (Nat.zero_le _) (by omega) (fun x hx => absurd hx (Nat.not_lt_zero x))
  unfold wpY_init
  refine yi_cl (yi_cl (yi_cl (yi_cl (re_in ?_))))
  exact ⟨bg, el, MB, MW, 0, fun _ => 0, fun _ => 0, fun _ => 0, fun _ => [], [], [], ⟨b3, b1, b2, l3, l2, m3, m2, w3, w2, Or.inl rfl⟩, ⟨wd_ok_nil, Nat.zero_le _, rfl, rfl, rfl, fun p hp => absurd hp (Nat.not_lt_zero p)⟩, ⟨⟨Nat.zero_le _, fun a ha => absurd ha (Nat.not_lt_zero a), fun a b ha => absurd ha (Nat.not_lt_zero a)⟩, fun a ha => absurd ha (Nat.not_lt_zero a), ⟨rfl, fun a ha => absurd ha (Nat.not_lt_zero a)⟩, fun a ha => absurd ha (Nat.not_lt_zero a)⟩, ⟨True.intro, rfl, fun x hx => (hI x hx).1, fun x hx => (hI x hx).2.1, fun x hx => (hI x hx).2.2, True.intro⟩, fun z => absurd rfl z⟩
end
