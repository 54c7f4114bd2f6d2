section
/-! pure rows to paste: stores, nI and lN arithmetic, masks, shifts, narrowing, branches by naturals (pk_le, pk_lt, pk_eq), loops (lp1 .. lp16: the measure of the state; rp1 ..: recursion), negatives. Take what you need -/
theorem pk_us {f : Nat → Int32} {k : Nat} {x : Int32} : upd f k x k = x := if_pos rfl
theorem pk_un {f : Nat → Int32} {k j : Nat} {x : Int32} (h : j ≠ k) : upd f k x j = f j := if_neg h
theorem pk_uLs {f : Nat → Int64} {k : Nat} {x : Int64} : vp_updL f k x k = x := if_pos rfl
theorem pk_uLn {f : Nat → Int64} {k j : Nat} {x : Int64} (h : j ≠ k) : vp_updL f k x j = f j := if_neg h
theorem pk_sub {a b : Nat} (h : b ≤ a) : nI a - nI b = nI (a - b) := by
  obtain ⟨c, rfl⟩ : ∃ c, a = c + b := ⟨a - b, by omega⟩
  rw [← nI_add, Int32.add_sub_cancel, Nat.add_sub_cancel]
theorem pk_m1 (n : Nat) : nI (n + 1) + (-1) = nI n := by
  rw [← nI_1, Int32.add_assoc, show (1 : Int32) + (-1) = 0 from rfl, Int32.add_zero]
theorem pk_mul (a b : Nat) : nI a * nI b = nI (a * b) := (Int32.ofNat_mul a b).symm
theorem pk_div {a d : Nat} (ha : a < 2 ^ 31) (h0 : 0 < d) (hd : d < 2 ^ 31) : nI a / nI d = nI (a / d) := by
  apply Int32.toInt_inj.mp
  rw [lg_idiv_nonneg (by rw [nI_toInt ha]; omega) (by rw [nI_toInt hd]; omega), nI_toInt ha, nI_toInt hd, nI_toInt (Nat.lt_of_le_of_lt (Nat.div_le_self a d) ha)]
  first | rfl | exact (Int.natCast_ediv _ _).symm
theorem pk_rem {a d : Nat} (ha : a < 2 ^ 31) (h0 : 0 < d) (hd : d < 2 ^ 31) : nI a - nI a / nI d * nI d = nI (a % d) := by
  rw [pk_div ha h0 hd, pk_mul, pk_sub (Nat.div_mul_le_self a d)]
  exact congrArg nI (by have := Nat.div_add_mod' a d; omega)
theorem pk_sub_toInt {a b : Nat} (ha : a < 2 ^ 30) (hb : b < 2 ^ 30) : (nI a - nI b).toInt = (a : Int) - b := by
  rw [Int32.toInt_sub, nI_toInt (by omega), nI_toInt (by omega)]
  exact Int.bmod_eq_of_le (by omega) (by omega)
theorem pk_sneg {a b : Nat} (hb : b < 2 ^ 30) (h : a < b) : nI a - nI b < 0 := by
  rw [Int32.lt_iff_toInt_lt, pk_sub_toInt (by omega) hb, show (0 : Int32).toInt = 0 from by decide]
  omega
theorem pk_ix (x : Int32) {n : Nat} (hn : n < 2 ^ 31) : x < 0 ∨ nI n ≤ x ∨ ∃ j : Nat, j < n ∧ x = nI j := by
  by_cases h : x < 0
  · exact Or.inl h
  · obtain ⟨j, hj, rfl⟩ := nI_of h
    by_cases h2 : j < n
    · exact Or.inr (Or.inr ⟨j, h2, rfl⟩)
    · exact Or.inr (Or.inl (nI_le (by omega) hj))
theorem pk_le {x y : Int32} {A B : Prop} (a b : Nat) (f : a ≤ b → A) (g : b < a → B) (hx : x = nI a := by rfl) (hy : y = nI b := by rfl) (ha : a < 2 ^ 31 := by omega) (hb : b < 2 ^ 31 := by omega) : (x ≤ y → A) ∧ (¬ x ≤ y → B) := by
  subst hx hy
  rw [nI_leI ha hb]
  exact ⟨f, fun z => g (by omega)⟩
theorem pk_lt {x y : Int32} {A B : Prop} (a b : Nat) (f : a < b → A) (g : b ≤ a → B) (hx : x = nI a := by rfl) (hy : y = nI b := by rfl) (ha : a < 2 ^ 31 := by omega) (hb : b < 2 ^ 31 := by omega) : (x < y → A) ∧ (¬ x < y → B) := by
  subst hx hy
  rw [nI_ltI ha hb]
  exact ⟨f, fun z => g (by omega)⟩
theorem pk_eq {x y : Int32} {A B : Prop} (a b : Nat) (f : a = b → A) (g : a ≠ b → B) (hx : x = nI a := by rfl) (hy : y = nI b := by rfl) (ha : a < 2 ^ 31 := by omega) (hb : b < 2 ^ 31 := by omega) : (x = y → A) ∧ (¬ x = y → B) := by
  subst hx hy
  rw [nI_eq ha hb]
  exact ⟨f, g⟩
theorem pk_in {x : Int32} (n N : Nat) (h : n < N) (hx : x = nI n := by rfl) (hN : N < 2 ^ 31 := by omega) : vp_in x N := by
  subst hx
  exact vp_in_nI h hN
theorem pk_cl {x : Int32} (n : Nat) (hx : x = nI n := by rfl) (h : n < 2 ^ 31 := by omega) : x.toNatClampNeg = n := by
  subst hx
  exact nI_clamp h
theorem pk_tn {n : Nat} (h : n < 2 ^ 32) : (nI n).toBitVec.toNat = n := Nat.mod_eq_of_lt h
theorem pk_and (x : Int32) {m : Int32} (k : Nat) (hm : m.toBitVec.toNat = 2 ^ k - 1) : x &&& m = nI (x.toBitVec.toNat % 2 ^ k) := by
  apply Int32.toBitVec_inj.mp
  apply BitVec.eq_of_toNat_eq
  rw [Int32.toBitVec_and, BitVec.toNat_and, hm, Nat.and_two_pow_sub_one_eq_mod]
  show _ = (BitVec.ofNat 32 _).toNat
  rw [BitVec.toNat_ofNat]
  exact (Nat.mod_eq_of_lt (Nat.lt_of_le_of_lt (Nat.mod_le _ _) x.toBitVec.isLt)).symm
theorem pk_andN {n : Nat} (h : n < 2 ^ 32) {m : Int32} (k : Nat) (hm : m.toBitVec.toNat = 2 ^ k - 1) : nI n &&& m = nI (n % 2 ^ k) := by
  rw [pk_and _ k hm, pk_tn h]
theorem pk_andE (x : Int32) {m : Int32} (k : Nat) (hm : m.toBitVec.toNat = 2 ^ k - 1) : ∃ j : Nat, j < 2 ^ k ∧ x &&& m = nI j := ⟨_, Nat.mod_lt _ (Nat.two_pow_pos k), pk_and x k hm⟩
theorem pk_andIn (x : Int32) {m : Int32} (k : Nat) (hm : m.toBitVec.toNat = 2 ^ k - 1) (hk : k ≤ 30) : vp_in (x &&& m) (2 ^ k) := by
  obtain ⟨j, hj, e⟩ := pk_andE x k hm
  rw [e]
  exact vp_in_nI hj (Nat.lt_of_le_of_lt (Nat.pow_le_pow_right (by decide) hk) (by decide))
theorem pk_shl (a s : Int32) (k : Nat) (hs : (s.toBitVec.smod 32).toNat = k) : (a <<< s).toBitVec.toNat = a.toBitVec.toNat * 2 ^ k % 2 ^ 32 := by
  show (a.toBitVec <<< (s.toBitVec.smod 32).toNat).toNat = _
  rw [hs, BitVec.toNat_shiftLeft, Nat.shiftLeft_eq]
theorem pk_shlN {n : Nat} (s : Int32) (k : Nat) (hs : (s.toBitVec.smod 32).toNat = k) (h : n * 2 ^ k < 2 ^ 32) : nI n <<< s = nI (n * 2 ^ k) := by
  apply Int32.toBitVec_inj.mp
  apply BitVec.eq_of_toNat_eq
  have hn : n < 2 ^ 32 := Nat.lt_of_le_of_lt (Nat.le_mul_of_pos_right n (Nat.two_pow_pos k)) h
  rw [pk_shl _ _ k hs, pk_tn hn, pk_tn h, Nat.mod_eq_of_lt h]
theorem pk_shr (a s : Int32) (k : Nat) (hs : (s.toBitVec.smod 32).toNat = k) : (a >>> s).toInt = a.toInt >>> k := by
  show (a.toBitVec.sshiftRight (s.toBitVec.smod 32).toNat).toInt = _
  rw [hs, BitVec.toInt_sshiftRight]
  rfl
theorem pk_shrN {n : Nat} (h : n < 2 ^ 31) (s : Int32) (k : Nat) (hs : (s.toBitVec.smod 32).toNat = k) : nI n >>> s = nI (n / 2 ^ k) := by
  apply Int32.toInt_inj.mp
  have h2 : n / 2 ^ k ≤ n := Nat.div_le_self _ _
  rw [pk_shr _ _ k hs, nI_toInt h, nI_toInt (by omega), Int.shiftRight_eq_div_pow]
  rfl
theorem pk_ushr (x s : Int32) (k : Nat) (hs : ((s.toUInt32 &&& Int32.toUInt32 31).toBitVec % 32).toNat = k) : (x.toUInt32 >>> (s.toUInt32 &&& Int32.toUInt32 31)).toInt32.toBitVec.toNat = x.toBitVec.toNat / 2 ^ k := by
  have e : (x.toUInt32 >>> (s.toUInt32 &&& Int32.toUInt32 31)).toInt32.toBitVec = x.toBitVec >>> k := by
    rw [← hs]
    exact UInt32.toBitVec_shiftRight _ _
  rw [e, BitVec.toNat_ushiftRight, Nat.shiftRight_eq_div_pow]
theorem pk_ushrN {n : Nat} (hn : n < 2 ^ 32) (s : Int32) (k : Nat) (hs : ((s.toUInt32 &&& Int32.toUInt32 31).toBitVec % 32).toNat = k) : ((nI n).toUInt32 >>> (s.toUInt32 &&& Int32.toUInt32 31)).toInt32 = nI (n / 2 ^ k) := by
  apply Int32.toBitVec_inj.mp
  apply BitVec.eq_of_toNat_eq
  rw [pk_ushr _ s k hs, pk_tn hn, pk_tn (Nat.lt_of_le_of_lt (Nat.div_le_self _ _) hn)]
theorem pk_nb (z : Int32) : narrow .byte (.int z.toInt8.toInt32) = .int z.toInt8.toInt32 := congrArg Value.int (by simp)
theorem pk_ns (z : Int32) : narrow .short (.int z.toInt16.toInt32) = .int z.toInt16.toInt32 := congrArg Value.int (by simp)
theorem pk_fb (r : Int32) : fits .byte (.int r.toInt8.toInt32) = true := by
  have ⟨a, b⟩ := lg_i2b_range r
  have h1 : (-128 : Int32).toInt = -128 := by decide
  have h2 : (127 : Int32).toInt = 127 := by decide
  simp only [fits, Bool.and_eq_true, decide_eq_true_eq, Int32.le_iff_toInt_le, h1, h2]
  omega
theorem pk_fs (r : Int32) : fits .short (.int r.toInt16.toInt32) = true := by
  have ⟨a, b⟩ := lg_i2s_range r
  have h1 : (-32768 : Int32).toInt = -32768 := by decide
  have h2 : (32767 : Int32).toInt = 32767 := by decide
  simp only [fits, Bool.and_eq_true, decide_eq_true_eq, Int32.le_iff_toInt_le, h1, h2]
  omega
theorem pk_charN {q : Nat} (hq : q < 65536) : narrow .char (.int (nI q)) = .int (nI q) ∧ fits .char (.int (nI q)) = true := by
  constructor
  · have e : (nI q).toUInt32.toUInt16.toUInt32.toInt32 = nI q := by
      apply Int32.toBitVec_inj.mp
      apply BitVec.eq_of_toNat_eq
      show (nI q).toUInt32.toUInt16.toUInt32.toNat = q % 2 ^ 32
      rw [UInt16.toNat_toUInt32, UInt32.toNat_toUInt16, show (nI q).toUInt32.toNat = q % 2 ^ 32 from rfl]
      omega
    exact congrArg Value.int e
  · have a : (0 : Int32) ≤ nI q := nI_pos' (by omega)
    have b : nI q ≤ 65535 := nI_le (b := 65535) (by omega) (by decide)
    show (decide ((0 : Int32) ≤ nI q) && decide (nI q ≤ 65535)) = true
    rw [decide_eq_true a, decide_eq_true b]
    rfl
theorem pk_char (x : Int32) : (x.toUInt32 % 65536).toInt32 = nI (x.toBitVec.toNat % 65536) := by
  apply Int32.toBitVec_inj.mp
  apply BitVec.eq_of_toNat_eq
  rw [pk_tn (by omega)]
  show (x.toUInt32 % 65536).toNat = _
  rw [UInt32.toNat_mod]
  rfl
theorem pk_nc (x : Int32) : narrow .char (.int (x.toUInt32 % 65536).toInt32) = .int (x.toUInt32 % 65536).toInt32 := by
  rw [pk_char]
  exact (pk_charN (Nat.mod_lt _ (by decide))).1
theorem pk_fc (x : Int32) : fits .char (.int (x.toUInt32 % 65536).toInt32) = true := by
  rw [pk_char]
  exact (pk_charN (Nat.mod_lt _ (by decide))).2
theorem pk_vb (z : Int32) : vp_nar .byte z.toInt8.toInt32 = z.toInt8.toInt32 := by rw [vp_nar_byte]; simp
theorem pk_vs (z : Int32) : vp_nar .short z.toInt16.toInt32 = z.toInt16.toInt32 := by rw [vp_nar_short]; simp
theorem pk_vc (z : Int32) : vp_nar .char (z.toUInt32 % 65536).toInt32 = (z.toUInt32 % 65536).toInt32 := Value.int.inj (pk_nc z)
theorem pk_lT {n : Nat} (h : n < 2 ^ 63) : (lN n).toInt = (n : Int) := lg_ofNat_toInt h
theorem pk_lLT {a b : Nat} (ha : a < 2 ^ 63) (hb : b < 2 ^ 63) : lN a < lN b ↔ a < b := by
  rw [Int64.lt_iff_toInt_lt, pk_lT ha, pk_lT hb]; omega
theorem pk_lLE {a b : Nat} (ha : a < 2 ^ 63) (hb : b < 2 ^ 63) : lN a ≤ lN b ↔ a ≤ b := by
  rw [Int64.le_iff_toInt_le, pk_lT ha, pk_lT hb]; omega
theorem pk_lEQ {a b : Nat} (ha : a < 2 ^ 63) (hb : b < 2 ^ 63) : lN a = lN b ↔ a = b := by
  rw [← Int64.toInt_inj, pk_lT ha, pk_lT hb]; omega
theorem pk_lOf {x : Int64} (h : ¬ x < 0) : ∃ k : Nat, k < 2 ^ 63 ∧ x = lN k := by
  rw [Int64.lt_iff_toInt_lt] at h
  have h0 : (0 : Int64).toInt = 0 := by decide
  have hx := Int64.toInt_lt x
  refine ⟨x.toInt.toNat, by omega, Int64.toInt_inj.mp ?_⟩
  rw [pk_lT (by omega)]
  omega
theorem pk_lDiv {a b : Nat} (ha : a < 2 ^ 63) (h0 : 0 < b) (hb : b < 2 ^ 63) : lN a / lN b = lN (a / b) := by
  apply Int64.toInt_inj.mp
  rw [lg_ldiv_nonneg (by rw [pk_lT ha]; omega) (by rw [pk_lT hb]; omega), pk_lT ha, pk_lT hb, pk_lT (Nat.lt_of_le_of_lt (Nat.div_le_self a b) ha)]
  rfl
theorem pk_lRem {a b : Nat} (ha : a < 2 ^ 63) (h0 : 0 < b) (hb : b < 2 ^ 63) : lN a - lN a / lN b * lN b = lN (a % b) := by
  rw [pk_lDiv ha h0 hb, lN_mul, lN_sub (Nat.div_mul_le_self a b)]
  exact congrArg lN (by have := Nat.div_add_mod' a b; omega)
theorem pk_loop {σ : Type} (W : Nat → Nat → σ → Prop) (I : Nat → σ → Prop) (e i0 : Nat) (s : σ) (hi : i0 ≤ e) (h0 : I i0 s) (hx : ∀ n s, I e s → W (n + 1) e s)
    (hs : ∀ n i s, i < e → I i s → (∀ s', I (i + 1) s' → W n (i + 1) s') → W (n + 1) i s) : ∃ n, W n i0 s :=
  ⟨e + 1, loop_i W I e hx hs (e + 1) i0 s hi (by omega) h0⟩
theorem pk_loopD {σ : Type} (W : Nat → Nat → σ → Prop) (I : Nat → σ → Prop) (hx : ∀ n s, I 0 s → W (n + 1) 0 s)
    (hs : ∀ n i s, I (i + 1) s → (∀ s', I i s' → W n i s') → W (n + 1) (i + 1) s) : ∀ (e : Nat) (s : σ), I e s → W (e + 1) e s := by
  intro e
  induction e with
  | zero => exact fun s h => hx 0 s h
  | succ e ih => exact fun s h => hs (e + 1) e s h (fun s' h' => ih s' h')
theorem lp1 {A1 : Type} (W : Nat → A1 → Prop) (I : A1 → Prop) (μ : A1 → Nat) (hs : ∀ (n : Nat) (a1 : A1), I a1 → (∀ (b1 : A1), I b1 → μ b1 < μ a1 → W n b1) → W (n + 1) a1) (a1 : A1) (h : I a1) : ∃ n, W n a1 :=
  loop_m (σ := A1) (fun n s => W n s) (fun s => I s) (fun s => μ s) (fun n s hI hk => hs n s hI (fun b1 h9 hm => hk b1 h9 hm)) a1 h
theorem lp2 {A1 A2 : Type} (W : Nat → A1 → A2 → Prop) (I : A1 → A2 → Prop) (μ : A1 → A2 → Nat) (hs : ∀ (n : Nat) (a1 : A1) (a2 : A2), I a1 a2 → (∀ (b1 : A1) (b2 : A2), I b1 b2 → μ b1 b2 < μ a1 a2 → W n b1 b2) → W (n + 1) a1 a2) (a1 : A1) (a2 : A2) (h : I a1 a2) : ∃ n, W n a1 a2 :=
  loop_m (σ := A1 × A2) (fun n s => W n s.1 s.2) (fun s => I s.1 s.2) (fun s => μ s.1 s.2) (fun n s hI hk => hs n s.1 s.2 hI (fun b1 b2 h9 hm => hk (b1, b2) h9 hm)) (a1, a2) h
theorem lp3 {A1 A2 A3 : Type} (W : Nat → A1 → A2 → A3 → Prop) (I : A1 → A2 → A3 → Prop) (μ : A1 → A2 → A3 → Nat) (hs : ∀ (n : Nat) (a1 : A1) (a2 : A2) (a3 : A3), I a1 a2 a3 → (∀ (b1 : A1) (b2 : A2) (b3 : A3), I b1 b2 b3 → μ b1 b2 b3 < μ a1 a2 a3 → W n b1 b2 b3) → W (n + 1) a1 a2 a3) (a1 : A1) (a2 : A2) (a3 : A3) (h : I a1 a2 a3) : ∃ n, W n a1 a2 a3 :=
  loop_m (σ := A1 × A2 × A3) (fun n s => W n s.1 s.2.1 s.2.2) (fun s => I s.1 s.2.1 s.2.2) (fun s => μ s.1 s.2.1 s.2.2) (fun n s hI hk => hs n s.1 s.2.1 s.2.2 hI (fun b1 b2 b3 h9 hm => hk (b1, b2, b3) h9 hm)) (a1, a2, a3) h
theorem lp4 {A1 A2 A3 A4 : Type} (W : Nat → A1 → A2 → A3 → A4 → Prop) (I : A1 → A2 → A3 → A4 → Prop) (μ : A1 → A2 → A3 → A4 → Nat) (hs : ∀ (n : Nat) (a1 : A1) (a2 : A2) (a3 : A3) (a4 : A4), I a1 a2 a3 a4 → (∀ (b1 : A1) (b2 : A2) (b3 : A3) (b4 : A4), I b1 b2 b3 b4 → μ b1 b2 b3 b4 < μ a1 a2 a3 a4 → W n b1 b2 b3 b4) → W (n + 1) a1 a2 a3 a4) (a1 : A1) (a2 : A2) (a3 : A3) (a4 : A4) (h : I a1 a2 a3 a4) : ∃ n, W n a1 a2 a3 a4 :=
  loop_m (σ := A1 × A2 × A3 × A4) (fun n s => W n s.1 s.2.1 s.2.2.1 s.2.2.2) (fun s => I s.1 s.2.1 s.2.2.1 s.2.2.2) (fun s => μ s.1 s.2.1 s.2.2.1 s.2.2.2) (fun n s hI hk => hs n s.1 s.2.1 s.2.2.1 s.2.2.2 hI (fun b1 b2 b3 b4 h9 hm => hk (b1, b2, b3, b4) h9 hm)) (a1, a2, a3, a4) h
theorem lp5 {A1 A2 A3 A4 A5 : Type} (W : Nat → A1 → A2 → A3 → A4 → A5 → Prop) (I : A1 → A2 → A3 → A4 → A5 → Prop) (μ : A1 → A2 → A3 → A4 → A5 → Nat) (hs : ∀ (n : Nat) (a1 : A1) (a2 : A2) (a3 : A3) (a4 : A4) (a5 : A5), I a1 a2 a3 a4 a5 → (∀ (b1 : A1) (b2 : A2) (b3 : A3) (b4 : A4) (b5 : A5), I b1 b2 b3 b4 b5 → μ b1 b2 b3 b4 b5 < μ a1 a2 a3 a4 a5 → W n b1 b2 b3 b4 b5) → W (n + 1) a1 a2 a3 a4 a5) (a1 : A1) (a2 : A2) (a3 : A3) (a4 : A4) (a5 : A5) (h : I a1 a2 a3 a4 a5) : ∃ n, W n a1 a2 a3 a4 a5 :=
  loop_m (σ := A1 × A2 × A3 × A4 × A5) (fun n s => W n s.1 s.2.1 s.2.2.1 s.2.2.2.1 s.2.2.2.2) (fun s => I s.1 s.2.1 s.2.2.1 s.2.2.2.1 s.2.2.2.2) (fun s => μ s.1 s.2.1 s.2.2.1 s.2.2.2.1 s.2.2.2.2) (fun n s hI hk => hs n s.1 s.2.1 s.2.2.1 s.2.2.2.1 s.2.2.2.2 hI (fun b1 b2 b3 b4 b5 h9 hm => hk (b1, b2, b3, b4, b5) h9 hm)) (a1, a2, a3, a4, a5) h
theorem lp6 {A1 A2 A3 A4 A5 A6 : Type} (W : Nat → A1 → A2 → A3 → A4 → A5 → A6 → Prop) (I : A1 → A2 → A3 → A4 → A5 → A6 → Prop) (μ : A1 → A2 → A3 → A4 → A5 → A6 → Nat) (hs : ∀ (n : Nat) (a1 : A1) (a2 : A2) (a3 : A3) (a4 : A4) (a5 : A5) (a6 : A6), I a1 a2 a3 a4 a5 a6 → (∀ (b1 : A1) (b2 : A2) (b3 : A3) (b4 : A4) (b5 : A5) (b6 : A6), I b1 b2 b3 b4 b5 b6 → μ b1 b2 b3 b4 b5 b6 < μ a1 a2 a3 a4 a5 a6 → W n b1 b2 b3 b4 b5 b6) → W (n + 1) a1 a2 a3 a4 a5 a6) (a1 : A1) (a2 : A2) (a3 : A3) (a4 : A4) (a5 : A5) (a6 : A6) (h : I a1 a2 a3 a4 a5 a6) : ∃ n, W n a1 a2 a3 a4 a5 a6 :=
  loop_m (σ := A1 × A2 × A3 × A4 × A5 × A6) (fun n s => W n s.1 s.2.1 s.2.2.1 s.2.2.2.1 s.2.2.2.2.1 s.2.2.2.2.2) (fun s => I s.1 s.2.1 s.2.2.1 s.2.2.2.1 s.2.2.2.2.1 s.2.2.2.2.2) (fun s => μ s.1 s.2.1 s.2.2.1 s.2.2.2.1 s.2.2.2.2.1 s.2.2.2.2.2) (fun n s hI hk => hs n s.1 s.2.1 s.2.2.1 s.2.2.2.1 s.2.2.2.2.1 s.2.2.2.2.2 hI (fun b1 b2 b3 b4 b5 b6 h9 hm => hk (b1, b2, b3, b4, b5, b6) h9 hm)) (a1, a2, a3, a4, a5, a6) h
theorem lp7 {A1 A2 A3 A4 A5 A6 A7 : Type} (W : Nat → A1 → A2 → A3 → A4 → A5 → A6 → A7 → Prop) (I : A1 → A2 → A3 → A4 → A5 → A6 → A7 → Prop) (μ : A1 → A2 → A3 → A4 → A5 → A6 → A7 → Nat) (hs : ∀ (n : Nat) (a1 : A1) (a2 : A2) (a3 : A3) (a4 : A4) (a5 : A5) (a6 : A6) (a7 : A7), I a1 a2 a3 a4 a5 a6 a7 → (∀ (b1 : A1) (b2 : A2) (b3 : A3) (b4 : A4) (b5 : A5) (b6 : A6) (b7 : A7), I b1 b2 b3 b4 b5 b6 b7 → μ b1 b2 b3 b4 b5 b6 b7 < μ a1 a2 a3 a4 a5 a6 a7 → W n b1 b2 b3 b4 b5 b6 b7) → W (n + 1) a1 a2 a3 a4 a5 a6 a7) (a1 : A1) (a2 : A2) (a3 : A3) (a4 : A4) (a5 : A5) (a6 : A6) (a7 : A7) (h : I a1 a2 a3 a4 a5 a6 a7) : ∃ n, W n a1 a2 a3 a4 a5 a6 a7 :=
  loop_m (σ := A1 × A2 × A3 × A4 × A5 × A6 × A7) (fun n s => W n s.1 s.2.1 s.2.2.1 s.2.2.2.1 s.2.2.2.2.1 s.2.2.2.2.2.1 s.2.2.2.2.2.2) (fun s => I s.1 s.2.1 s.2.2.1 s.2.2.2.1 s.2.2.2.2.1 s.2.2.2.2.2.1 s.2.2.2.2.2.2) (fun s => μ s.1 s.2.1 s.2.2.1 s.2.2.2.1 s.2.2.2.2.1 s.2.2.2.2.2.1 s.2.2.2.2.2.2) (fun n s hI hk => hs n s.1 s.2.1 s.2.2.1 s.2.2.2.1 s.2.2.2.2.1 s.2.2.2.2.2.1 s.2.2.2.2.2.2 hI (fun b1 b2 b3 b4 b5 b6 b7 h9 hm => hk (b1, b2, b3, b4, b5, b6, b7) h9 hm)) (a1, a2, a3, a4, a5, a6, a7) h
theorem lp8 {A1 A2 A3 A4 A5 A6 A7 A8 : Type} (W : Nat → A1 → A2 → A3 → A4 → A5 → A6 → A7 → A8 → Prop) (I : A1 → A2 → A3 → A4 → A5 → A6 → A7 → A8 → Prop) (μ : A1 → A2 → A3 → A4 → A5 → A6 → A7 → A8 → Nat) (hs : ∀ (n : Nat) (a1 : A1) (a2 : A2) (a3 : A3) (a4 : A4) (a5 : A5) (a6 : A6) (a7 : A7) (a8 : A8), I a1 a2 a3 a4 a5 a6 a7 a8 → (∀ (b1 : A1) (b2 : A2) (b3 : A3) (b4 : A4) (b5 : A5) (b6 : A6) (b7 : A7) (b8 : A8), I b1 b2 b3 b4 b5 b6 b7 b8 → μ b1 b2 b3 b4 b5 b6 b7 b8 < μ a1 a2 a3 a4 a5 a6 a7 a8 → W n b1 b2 b3 b4 b5 b6 b7 b8) → W (n + 1) a1 a2 a3 a4 a5 a6 a7 a8) (a1 : A1) (a2 : A2) (a3 : A3) (a4 : A4) (a5 : A5) (a6 : A6) (a7 : A7) (a8 : A8) (h : I a1 a2 a3 a4 a5 a6 a7 a8) : ∃ n, W n a1 a2 a3 a4 a5 a6 a7 a8 :=
  loop_m (σ := A1 × A2 × A3 × A4 × A5 × A6 × A7 × A8) (fun n s => W n s.1 s.2.1 s.2.2.1 s.2.2.2.1 s.2.2.2.2.1 s.2.2.2.2.2.1 s.2.2.2.2.2.2.1 s.2.2.2.2.2.2.2) (fun s => I s.1 s.2.1 s.2.2.1 s.2.2.2.1 s.2.2.2.2.1 s.2.2.2.2.2.1 s.2.2.2.2.2.2.1 s.2.2.2.2.2.2.2) (fun s => μ s.1 s.2.1 s.2.2.1 s.2.2.2.1 s.2.2.2.2.1 s.2.2.2.2.2.1 s.2.2.2.2.2.2.1 s.2.2.2.2.2.2.2) (fun n s hI hk => hs n s.1 s.2.1 s.2.2.1 s.2.2.2.1 s.2.2.2.2.1 s.2.2.2.2.2.1 s.2.2.2.2.2.2.1 s.2.2.2.2.2.2.2 hI (fun b1 b2 b3 b4 b5 b6 b7 b8 h9 hm => hk (b1, b2, b3, b4, b5, b6, b7, b8) h9 hm)) (a1, a2, a3, a4, a5, a6, a7, a8) h
theorem lp9 {A1 A2 A3 A4 A5 A6 A7 A8 A9 : Type} (W : Nat → A1 → A2 → A3 → A4 → A5 → A6 → A7 → A8 → A9 → Prop) (I : A1 → A2 → A3 → A4 → A5 → A6 → A7 → A8 → A9 → Prop) (μ : A1 → A2 → A3 → A4 → A5 → A6 → A7 → A8 → A9 → Nat) (hs : ∀ (n : Nat) (a1 : A1) (a2 : A2) (a3 : A3) (a4 : A4) (a5 : A5) (a6 : A6) (a7 : A7) (a8 : A8) (a9 : A9), I a1 a2 a3 a4 a5 a6 a7 a8 a9 → (∀ (b1 : A1) (b2 : A2) (b3 : A3) (b4 : A4) (b5 : A5) (b6 : A6) (b7 : A7) (b8 : A8) (b9 : A9), I b1 b2 b3 b4 b5 b6 b7 b8 b9 → μ b1 b2 b3 b4 b5 b6 b7 b8 b9 < μ a1 a2 a3 a4 a5 a6 a7 a8 a9 → W n b1 b2 b3 b4 b5 b6 b7 b8 b9) → W (n + 1) a1 a2 a3 a4 a5 a6 a7 a8 a9) (a1 : A1) (a2 : A2) (a3 : A3) (a4 : A4) (a5 : A5) (a6 : A6) (a7 : A7) (a8 : A8) (a9 : A9) (h : I a1 a2 a3 a4 a5 a6 a7 a8 a9) : ∃ n, W n a1 a2 a3 a4 a5 a6 a7 a8 a9 :=
  loop_m (σ := A1 × A2 × A3 × A4 × A5 × A6 × A7 × A8 × A9) (fun n s => W n s.1 s.2.1 s.2.2.1 s.2.2.2.1 s.2.2.2.2.1 s.2.2.2.2.2.1 s.2.2.2.2.2.2.1 s.2.2.2.2.2.2.2.1 s.2.2.2.2.2.2.2.2) (fun s => I s.1 s.2.1 s.2.2.1 s.2.2.2.1 s.2.2.2.2.1 s.2.2.2.2.2.1 s.2.2.2.2.2.2.1 s.2.2.2.2.2.2.2.1 s.2.2.2.2.2.2.2.2) (fun s => μ s.1 s.2.1 s.2.2.1 s.2.2.2.1 s.2.2.2.2.1 s.2.2.2.2.2.1 s.2.2.2.2.2.2.1 s.2.2.2.2.2.2.2.1 s.2.2.2.2.2.2.2.2) (fun n s hI hk => hs n s.1 s.2.1 s.2.2.1 s.2.2.2.1 s.2.2.2.2.1 s.2.2.2.2.2.1 s.2.2.2.2.2.2.1 s.2.2.2.2.2.2.2.1 s.2.2.2.2.2.2.2.2 hI (fun b1 b2 b3 b4 b5 b6 b7 b8 b9 h9 hm => hk (b1, b2, b3, b4, b5, b6, b7, b8, b9) h9 hm)) (a1, a2, a3, a4, a5, a6, a7, a8, a9) h
theorem lp10 {A1 A2 A3 A4 A5 A6 A7 A8 A9 A10 : Type} (W : Nat → A1 → A2 → A3 → A4 → A5 → A6 → A7 → A8 → A9 → A10 → Prop) (I : A1 → A2 → A3 → A4 → A5 → A6 → A7 → A8 → A9 → A10 → Prop) (μ : A1 → A2 → A3 → A4 → A5 → A6 → A7 → A8 → A9 → A10 → Nat) (hs : ∀ (n : Nat) (a1 : A1) (a2 : A2) (a3 : A3) (a4 : A4) (a5 : A5) (a6 : A6) (a7 : A7) (a8 : A8) (a9 : A9) (a10 : A10), I a1 a2 a3 a4 a5 a6 a7 a8 a9 a10 → (∀ (b1 : A1) (b2 : A2) (b3 : A3) (b4 : A4) (b5 : A5) (b6 : A6) (b7 : A7) (b8 : A8) (b9 : A9) (b10 : A10), I b1 b2 b3 b4 b5 b6 b7 b8 b9 b10 → μ b1 b2 b3 b4 b5 b6 b7 b8 b9 b10 < μ a1 a2 a3 a4 a5 a6 a7 a8 a9 a10 → W n b1 b2 b3 b4 b5 b6 b7 b8 b9 b10) → W (n + 1) a1 a2 a3 a4 a5 a6 a7 a8 a9 a10) (a1 : A1) (a2 : A2) (a3 : A3) (a4 : A4) (a5 : A5) (a6 : A6) (a7 : A7) (a8 : A8) (a9 : A9) (a10 : A10) (h : I a1 a2 a3 a4 a5 a6 a7 a8 a9 a10) : ∃ n, W n a1 a2 a3 a4 a5 a6 a7 a8 a9 a10 :=
  loop_m (σ := A1 × A2 × A3 × A4 × A5 × A6 × A7 × A8 × A9 × A10) (fun n s => W n s.1 s.2.1 s.2.2.1 s.2.2.2.1 s.2.2.2.2.1 s.2.2.2.2.2.1 s.2.2.2.2.2.2.1 s.2.2.2.2.2.2.2.1 s.2.2.2.2.2.2.2.2.1 s.2.2.2.2.2.2.2.2.2) (fun s => I s.1 s.2.1 s.2.2.1 s.2.2.2.1 s.2.2.2.2.1 s.2.2.2.2.2.1 s.2.2.2.2.2.2.1 s.2.2.2.2.2.2.2.1 s.2.2.2.2.2.2.2.2.1 s.2.2.2.2.2.2.2.2.2) (fun s => μ s.1 s.2.1 s.2.2.1 s.2.2.2.1 s.2.2.2.2.1 s.2.2.2.2.2.1 s.2.2.2.2.2.2.1 s.2.2.2.2.2.2.2.1 s.2.2.2.2.2.2.2.2.1 s.2.2.2.2.2.2.2.2.2) (fun n s hI hk => hs n s.1 s.2.1 s.2.2.1 s.2.2.2.1 s.2.2.2.2.1 s.2.2.2.2.2.1 s.2.2.2.2.2.2.1 s.2.2.2.2.2.2.2.1 s.2.2.2.2.2.2.2.2.1 s.2.2.2.2.2.2.2.2.2 hI (fun b1 b2 b3 b4 b5 b6 b7 b8 b9 b10 h9 hm => hk (b1, b2, b3, b4, b5, b6, b7, b8, b9, b10) h9 hm)) (a1, a2, a3, a4, a5, a6, a7, a8, a9, a10) h
theorem lp11 {A1 A2 A3 A4 A5 A6 A7 A8 A9 A10 A11 : Type} (W : Nat → A1 → A2 → A3 → A4 → A5 → A6 → A7 → A8 → A9 → A10 → A11 → Prop) (I : A1 → A2 → A3 → A4 → A5 → A6 → A7 → A8 → A9 → A10 → A11 → Prop) (μ : A1 → A2 → A3 → A4 → A5 → A6 → A7 → A8 → A9 → A10 → A11 → Nat) (hs : ∀ (n : Nat) (a1 : A1) (a2 : A2) (a3 : A3) (a4 : A4) (a5 : A5) (a6 : A6) (a7 : A7) (a8 : A8) (a9 : A9) (a10 : A10) (a11 : A11), I a1 a2 a3 a4 a5 a6 a7 a8 a9 a10 a11 → (∀ (b1 : A1) (b2 : A2) (b3 : A3) (b4 : A4) (b5 : A5) (b6 : A6) (b7 : A7) (b8 : A8) (b9 : A9) (b10 : A10) (b11 : A11), I b1 b2 b3 b4 b5 b6 b7 b8 b9 b10 b11 → μ b1 b2 b3 b4 b5 b6 b7 b8 b9 b10 b11 < μ a1 a2 a3 a4 a5 a6 a7 a8 a9 a10 a11 → W n b1 b2 b3 b4 b5 b6 b7 b8 b9 b10 b11) → W (n + 1) a1 a2 a3 a4 a5 a6 a7 a8 a9 a10 a11) (a1 : A1) (a2 : A2) (a3 : A3) (a4 : A4) (a5 : A5) (a6 : A6) (a7 : A7) (a8 : A8) (a9 : A9) (a10 : A10) (a11 : A11) (h : I a1 a2 a3 a4 a5 a6 a7 a8 a9 a10 a11) : ∃ n, W n a1 a2 a3 a4 a5 a6 a7 a8 a9 a10 a11 :=
  loop_m (σ := A1 × A2 × A3 × A4 × A5 × A6 × A7 × A8 × A9 × A10 × A11) (fun n s => W n s.1 s.2.1 s.2.2.1 s.2.2.2.1 s.2.2.2.2.1 s.2.2.2.2.2.1 s.2.2.2.2.2.2.1 s.2.2.2.2.2.2.2.1 s.2.2.2.2.2.2.2.2.1 s.2.2.2.2.2.2.2.2.2.1 s.2.2.2.2.2.2.2.2.2.2) (fun s => I s.1 s.2.1 s.2.2.1 s.2.2.2.1 s.2.2.2.2.1 s.2.2.2.2.2.1 s.2.2.2.2.2.2.1 s.2.2.2.2.2.2.2.1 s.2.2.2.2.2.2.2.2.1 s.2.2.2.2.2.2.2.2.2.1 s.2.2.2.2.2.2.2.2.2.2) (fun s => μ s.1 s.2.1 s.2.2.1 s.2.2.2.1 s.2.2.2.2.1 s.2.2.2.2.2.1 s.2.2.2.2.2.2.1 s.2.2.2.2.2.2.2.1 s.2.2.2.2.2.2.2.2.1 s.2.2.2.2.2.2.2.2.2.1 s.2.2.2.2.2.2.2.2.2.2) (fun n s hI hk => hs n s.1 s.2.1 s.2.2.1 s.2.2.2.1 s.2.2.2.2.1 s.2.2.2.2.2.1 s.2.2.2.2.2.2.1 s.2.2.2.2.2.2.2.1 s.2.2.2.2.2.2.2.2.1 s.2.2.2.2.2.2.2.2.2.1 s.2.2.2.2.2.2.2.2.2.2 hI (fun b1 b2 b3 b4 b5 b6 b7 b8 b9 b10 b11 h9 hm => hk (b1, b2, b3, b4, b5, b6, b7, b8, b9, b10, b11) h9 hm)) (a1, a2, a3, a4, a5, a6, a7, a8, a9, a10, a11) h
theorem lp12 {A1 A2 A3 A4 A5 A6 A7 A8 A9 A10 A11 A12 : Type} (W : Nat → A1 → A2 → A3 → A4 → A5 → A6 → A7 → A8 → A9 → A10 → A11 → A12 → Prop) (I : A1 → A2 → A3 → A4 → A5 → A6 → A7 → A8 → A9 → A10 → A11 → A12 → Prop) (μ : A1 → A2 → A3 → A4 → A5 → A6 → A7 → A8 → A9 → A10 → A11 → A12 → Nat) (hs : ∀ (n : Nat) (a1 : A1) (a2 : A2) (a3 : A3) (a4 : A4) (a5 : A5) (a6 : A6) (a7 : A7) (a8 : A8) (a9 : A9) (a10 : A10) (a11 : A11) (a12 : A12), I a1 a2 a3 a4 a5 a6 a7 a8 a9 a10 a11 a12 → (∀ (b1 : A1) (b2 : A2) (b3 : A3) (b4 : A4) (b5 : A5) (b6 : A6) (b7 : A7) (b8 : A8) (b9 : A9) (b10 : A10) (b11 : A11) (b12 : A12), I b1 b2 b3 b4 b5 b6 b7 b8 b9 b10 b11 b12 → μ b1 b2 b3 b4 b5 b6 b7 b8 b9 b10 b11 b12 < μ a1 a2 a3 a4 a5 a6 a7 a8 a9 a10 a11 a12 → W n b1 b2 b3 b4 b5 b6 b7 b8 b9 b10 b11 b12) → W (n + 1) a1 a2 a3 a4 a5 a6 a7 a8 a9 a10 a11 a12) (a1 : A1) (a2 : A2) (a3 : A3) (a4 : A4) (a5 : A5) (a6 : A6) (a7 : A7) (a8 : A8) (a9 : A9) (a10 : A10) (a11 : A11) (a12 : A12) (h : I a1 a2 a3 a4 a5 a6 a7 a8 a9 a10 a11 a12) : ∃ n, W n a1 a2 a3 a4 a5 a6 a7 a8 a9 a10 a11 a12 :=
  loop_m (σ := A1 × A2 × A3 × A4 × A5 × A6 × A7 × A8 × A9 × A10 × A11 × A12) (fun n s => W n s.1 s.2.1 s.2.2.1 s.2.2.2.1 s.2.2.2.2.1 s.2.2.2.2.2.1 s.2.2.2.2.2.2.1 s.2.2.2.2.2.2.2.1 s.2.2.2.2.2.2.2.2.1 s.2.2.2.2.2.2.2.2.2.1 s.2.2.2.2.2.2.2.2.2.2.1 s.2.2.2.2.2.2.2.2.2.2.2) (fun s => I s.1 s.2.1 s.2.2.1 s.2.2.2.1 s.2.2.2.2.1 s.2.2.2.2.2.1 s.2.2.2.2.2.2.1 s.2.2.2.2.2.2.2.1 s.2.2.2.2.2.2.2.2.1 s.2.2.2.2.2.2.2.2.2.1 s.2.2.2.2.2.2.2.2.2.2.1 s.2.2.2.2.2.2.2.2.2.2.2) (fun s => μ s.1 s.2.1 s.2.2.1 s.2.2.2.1 s.2.2.2.2.1 s.2.2.2.2.2.1 s.2.2.2.2.2.2.1 s.2.2.2.2.2.2.2.1 s.2.2.2.2.2.2.2.2.1 s.2.2.2.2.2.2.2.2.2.1 s.2.2.2.2.2.2.2.2.2.2.1 s.2.2.2.2.2.2.2.2.2.2.2) (fun n s hI hk => hs n s.1 s.2.1 s.2.2.1 s.2.2.2.1 s.2.2.2.2.1 s.2.2.2.2.2.1 s.2.2.2.2.2.2.1 s.2.2.2.2.2.2.2.1 s.2.2.2.2.2.2.2.2.1 s.2.2.2.2.2.2.2.2.2.1 s.2.2.2.2.2.2.2.2.2.2.1 s.2.2.2.2.2.2.2.2.2.2.2 hI (fun b1 b2 b3 b4 b5 b6 b7 b8 b9 b10 b11 b12 h9 hm => hk (b1, b2, b3, b4, b5, b6, b7, b8, b9, b10, b11, b12) h9 hm)) (a1, a2, a3, a4, a5, a6, a7, a8, a9, a10, a11, a12) h
theorem lp13 {A1 A2 A3 A4 A5 A6 A7 A8 A9 A10 A11 A12 A13 : Type} (W : Nat → A1 → A2 → A3 → A4 → A5 → A6 → A7 → A8 → A9 → A10 → A11 → A12 → A13 → Prop) (I : A1 → A2 → A3 → A4 → A5 → A6 → A7 → A8 → A9 → A10 → A11 → A12 → A13 → Prop) (μ : A1 → A2 → A3 → A4 → A5 → A6 → A7 → A8 → A9 → A10 → A11 → A12 → A13 → Nat) (hs : ∀ (n : Nat) (a1 : A1) (a2 : A2) (a3 : A3) (a4 : A4) (a5 : A5) (a6 : A6) (a7 : A7) (a8 : A8) (a9 : A9) (a10 : A10) (a11 : A11) (a12 : A12) (a13 : A13), I a1 a2 a3 a4 a5 a6 a7 a8 a9 a10 a11 a12 a13 → (∀ (b1 : A1) (b2 : A2) (b3 : A3) (b4 : A4) (b5 : A5) (b6 : A6) (b7 : A7) (b8 : A8) (b9 : A9) (b10 : A10) (b11 : A11) (b12 : A12) (b13 : A13), I b1 b2 b3 b4 b5 b6 b7 b8 b9 b10 b11 b12 b13 → μ b1 b2 b3 b4 b5 b6 b7 b8 b9 b10 b11 b12 b13 < μ a1 a2 a3 a4 a5 a6 a7 a8 a9 a10 a11 a12 a13 → W n b1 b2 b3 b4 b5 b6 b7 b8 b9 b10 b11 b12 b13) → W (n + 1) a1 a2 a3 a4 a5 a6 a7 a8 a9 a10 a11 a12 a13) (a1 : A1) (a2 : A2) (a3 : A3) (a4 : A4) (a5 : A5) (a6 : A6) (a7 : A7) (a8 : A8) (a9 : A9) (a10 : A10) (a11 : A11) (a12 : A12) (a13 : A13) (h : I a1 a2 a3 a4 a5 a6 a7 a8 a9 a10 a11 a12 a13) : ∃ n, W n a1 a2 a3 a4 a5 a6 a7 a8 a9 a10 a11 a12 a13 :=
  loop_m (σ := A1 × A2 × A3 × A4 × A5 × A6 × A7 × A8 × A9 × A10 × A11 × A12 × A13) (fun n s => W n s.1 s.2.1 s.2.2.1 s.2.2.2.1 s.2.2.2.2.1 s.2.2.2.2.2.1 s.2.2.2.2.2.2.1 s.2.2.2.2.2.2.2.1 s.2.2.2.2.2.2.2.2.1 s.2.2.2.2.2.2.2.2.2.1 s.2.2.2.2.2.2.2.2.2.2.1 s.2.2.2.2.2.2.2.2.2.2.2.1 s.2.2.2.2.2.2.2.2.2.2.2.2) (fun s => I s.1 s.2.1 s.2.2.1 s.2.2.2.1 s.2.2.2.2.1 s.2.2.2.2.2.1 s.2.2.2.2.2.2.1 s.2.2.2.2.2.2.2.1 s.2.2.2.2.2.2.2.2.1 s.2.2.2.2.2.2.2.2.2.1 s.2.2.2.2.2.2.2.2.2.2.1 s.2.2.2.2.2.2.2.2.2.2.2.1 s.2.2.2.2.2.2.2.2.2.2.2.2) (fun s => μ s.1 s.2.1 s.2.2.1 s.2.2.2.1 s.2.2.2.2.1 s.2.2.2.2.2.1 s.2.2.2.2.2.2.1 s.2.2.2.2.2.2.2.1 s.2.2.2.2.2.2.2.2.1 s.2.2.2.2.2.2.2.2.2.1 s.2.2.2.2.2.2.2.2.2.2.1 s.2.2.2.2.2.2.2.2.2.2.2.1 s.2.2.2.2.2.2.2.2.2.2.2.2) (fun n s hI hk => hs n s.1 s.2.1 s.2.2.1 s.2.2.2.1 s.2.2.2.2.1 s.2.2.2.2.2.1 s.2.2.2.2.2.2.1 s.2.2.2.2.2.2.2.1 s.2.2.2.2.2.2.2.2.1 s.2.2.2.2.2.2.2.2.2.1 s.2.2.2.2.2.2.2.2.2.2.1 s.2.2.2.2.2.2.2.2.2.2.2.1 s.2.2.2.2.2.2.2.2.2.2.2.2 hI (fun b1 b2 b3 b4 b5 b6 b7 b8 b9 b10 b11 b12 b13 h9 hm => hk (b1, b2, b3, b4, b5, b6, b7, b8, b9, b10, b11, b12, b13) h9 hm)) (a1, a2, a3, a4, a5, a6, a7, a8, a9, a10, a11, a12, a13) h
theorem lp14 {A1 A2 A3 A4 A5 A6 A7 A8 A9 A10 A11 A12 A13 A14 : Type} (W : Nat → A1 → A2 → A3 → A4 → A5 → A6 → A7 → A8 → A9 → A10 → A11 → A12 → A13 → A14 → Prop) (I : A1 → A2 → A3 → A4 → A5 → A6 → A7 → A8 → A9 → A10 → A11 → A12 → A13 → A14 → Prop) (μ : A1 → A2 → A3 → A4 → A5 → A6 → A7 → A8 → A9 → A10 → A11 → A12 → A13 → A14 → Nat) (hs : ∀ (n : Nat) (a1 : A1) (a2 : A2) (a3 : A3) (a4 : A4) (a5 : A5) (a6 : A6) (a7 : A7) (a8 : A8) (a9 : A9) (a10 : A10) (a11 : A11) (a12 : A12) (a13 : A13) (a14 : A14), I a1 a2 a3 a4 a5 a6 a7 a8 a9 a10 a11 a12 a13 a14 → (∀ (b1 : A1) (b2 : A2) (b3 : A3) (b4 : A4) (b5 : A5) (b6 : A6) (b7 : A7) (b8 : A8) (b9 : A9) (b10 : A10) (b11 : A11) (b12 : A12) (b13 : A13) (b14 : A14), I b1 b2 b3 b4 b5 b6 b7 b8 b9 b10 b11 b12 b13 b14 → μ b1 b2 b3 b4 b5 b6 b7 b8 b9 b10 b11 b12 b13 b14 < μ a1 a2 a3 a4 a5 a6 a7 a8 a9 a10 a11 a12 a13 a14 → W n b1 b2 b3 b4 b5 b6 b7 b8 b9 b10 b11 b12 b13 b14) → W (n + 1) a1 a2 a3 a4 a5 a6 a7 a8 a9 a10 a11 a12 a13 a14) (a1 : A1) (a2 : A2) (a3 : A3) (a4 : A4) (a5 : A5) (a6 : A6) (a7 : A7) (a8 : A8) (a9 : A9) (a10 : A10) (a11 : A11) (a12 : A12) (a13 : A13) (a14 : A14) (h : I a1 a2 a3 a4 a5 a6 a7 a8 a9 a10 a11 a12 a13 a14) : ∃ n, W n a1 a2 a3 a4 a5 a6 a7 a8 a9 a10 a11 a12 a13 a14 :=
  loop_m (σ := A1 × A2 × A3 × A4 × A5 × A6 × A7 × A8 × A9 × A10 × A11 × A12 × A13 × A14) (fun n s => W n s.1 s.2.1 s.2.2.1 s.2.2.2.1 s.2.2.2.2.1 s.2.2.2.2.2.1 s.2.2.2.2.2.2.1 s.2.2.2.2.2.2.2.1 s.2.2.2.2.2.2.2.2.1 s.2.2.2.2.2.2.2.2.2.1 s.2.2.2.2.2.2.2.2.2.2.1 s.2.2.2.2.2.2.2.2.2.2.2.1 s.2.2.2.2.2.2.2.2.2.2.2.2.1 s.2.2.2.2.2.2.2.2.2.2.2.2.2) (fun s => I s.1 s.2.1 s.2.2.1 s.2.2.2.1 s.2.2.2.2.1 s.2.2.2.2.2.1 s.2.2.2.2.2.2.1 s.2.2.2.2.2.2.2.1 s.2.2.2.2.2.2.2.2.1 s.2.2.2.2.2.2.2.2.2.1 s.2.2.2.2.2.2.2.2.2.2.1 s.2.2.2.2.2.2.2.2.2.2.2.1 s.2.2.2.2.2.2.2.2.2.2.2.2.1 s.2.2.2.2.2.2.2.2.2.2.2.2.2) (fun s => μ s.1 s.2.1 s.2.2.1 s.2.2.2.1 s.2.2.2.2.1 s.2.2.2.2.2.1 s.2.2.2.2.2.2.1 s.2.2.2.2.2.2.2.1 s.2.2.2.2.2.2.2.2.1 s.2.2.2.2.2.2.2.2.2.1 s.2.2.2.2.2.2.2.2.2.2.1 s.2.2.2.2.2.2.2.2.2.2.2.1 s.2.2.2.2.2.2.2.2.2.2.2.2.1 s.2.2.2.2.2.2.2.2.2.2.2.2.2) (fun n s hI hk => hs n s.1 s.2.1 s.2.2.1 s.2.2.2.1 s.2.2.2.2.1 s.2.2.2.2.2.1 s.2.2.2.2.2.2.1 s.2.2.2.2.2.2.2.1 s.2.2.2.2.2.2.2.2.1 s.2.2.2.2.2.2.2.2.2.1 s.2.2.2.2.2.2.2.2.2.2.1 s.2.2.2.2.2.2.2.2.2.2.2.1 s.2.2.2.2.2.2.2.2.2.2.2.2.1 s.2.2.2.2.2.2.2.2.2.2.2.2.2 hI (fun b1 b2 b3 b4 b5 b6 b7 b8 b9 b10 b11 b12 b13 b14 h9 hm => hk (b1, b2, b3, b4, b5, b6, b7, b8, b9, b10, b11, b12, b13, b14) h9 hm)) (a1, a2, a3, a4, a5, a6, a7, a8, a9, a10, a11, a12, a13, a14) h
theorem lp15 {A1 A2 A3 A4 A5 A6 A7 A8 A9 A10 A11 A12 A13 A14 A15 : Type} (W : Nat → A1 → A2 → A3 → A4 → A5 → A6 → A7 → A8 → A9 → A10 → A11 → A12 → A13 → A14 → A15 → Prop) (I : A1 → A2 → A3 → A4 → A5 → A6 → A7 → A8 → A9 → A10 → A11 → A12 → A13 → A14 → A15 → Prop) (μ : A1 → A2 → A3 → A4 → A5 → A6 → A7 → A8 → A9 → A10 → A11 → A12 → A13 → A14 → A15 → Nat) (hs : ∀ (n : Nat) (a1 : A1) (a2 : A2) (a3 : A3) (a4 : A4) (a5 : A5) (a6 : A6) (a7 : A7) (a8 : A8) (a9 : A9) (a10 : A10) (a11 : A11) (a12 : A12) (a13 : A13) (a14 : A14) (a15 : A15), I a1 a2 a3 a4 a5 a6 a7 a8 a9 a10 a11 a12 a13 a14 a15 → (∀ (b1 : A1) (b2 : A2) (b3 : A3) (b4 : A4) (b5 : A5) (b6 : A6) (b7 : A7) (b8 : A8) (b9 : A9) (b10 : A10) (b11 : A11) (b12 : A12) (b13 : A13) (b14 : A14) (b15 : A15), I b1 b2 b3 b4 b5 b6 b7 b8 b9 b10 b11 b12 b13 b14 b15 → μ b1 b2 b3 b4 b5 b6 b7 b8 b9 b10 b11 b12 b13 b14 b15 < μ a1 a2 a3 a4 a5 a6 a7 a8 a9 a10 a11 a12 a13 a14 a15 → W n b1 b2 b3 b4 b5 b6 b7 b8 b9 b10 b11 b12 b13 b14 b15) → W (n + 1) a1 a2 a3 a4 a5 a6 a7 a8 a9 a10 a11 a12 a13 a14 a15) (a1 : A1) (a2 : A2) (a3 : A3) (a4 : A4) (a5 : A5) (a6 : A6) (a7 : A7) (a8 : A8) (a9 : A9) (a10 : A10) (a11 : A11) (a12 : A12) (a13 : A13) (a14 : A14) (a15 : A15) (h : I a1 a2 a3 a4 a5 a6 a7 a8 a9 a10 a11 a12 a13 a14 a15) : ∃ n, W n a1 a2 a3 a4 a5 a6 a7 a8 a9 a10 a11 a12 a13 a14 a15 :=
  loop_m (σ := A1 × A2 × A3 × A4 × A5 × A6 × A7 × A8 × A9 × A10 × A11 × A12 × A13 × A14 × A15) (fun n s => W n s.1 s.2.1 s.2.2.1 s.2.2.2.1 s.2.2.2.2.1 s.2.2.2.2.2.1 s.2.2.2.2.2.2.1 s.2.2.2.2.2.2.2.1 s.2.2.2.2.2.2.2.2.1 s.2.2.2.2.2.2.2.2.2.1 s.2.2.2.2.2.2.2.2.2.2.1 s.2.2.2.2.2.2.2.2.2.2.2.1 s.2.2.2.2.2.2.2.2.2.2.2.2.1 s.2.2.2.2.2.2.2.2.2.2.2.2.2.1 s.2.2.2.2.2.2.2.2.2.2.2.2.2.2) (fun s => I s.1 s.2.1 s.2.2.1 s.2.2.2.1 s.2.2.2.2.1 s.2.2.2.2.2.1 s.2.2.2.2.2.2.1 s.2.2.2.2.2.2.2.1 s.2.2.2.2.2.2.2.2.1 s.2.2.2.2.2.2.2.2.2.1 s.2.2.2.2.2.2.2.2.2.2.1 s.2.2.2.2.2.2.2.2.2.2.2.1 s.2.2.2.2.2.2.2.2.2.2.2.2.1 s.2.2.2.2.2.2.2.2.2.2.2.2.2.1 s.2.2.2.2.2.2.2.2.2.2.2.2.2.2) (fun s => μ s.1 s.2.1 s.2.2.1 s.2.2.2.1 s.2.2.2.2.1 s.2.2.2.2.2.1 s.2.2.2.2.2.2.1 s.2.2.2.2.2.2.2.1 s.2.2.2.2.2.2.2.2.1 s.2.2.2.2.2.2.2.2.2.1 s.2.2.2.2.2.2.2.2.2.2.1 s.2.2.2.2.2.2.2.2.2.2.2.1 s.2.2.2.2.2.2.2.2.2.2.2.2.1 s.2.2.2.2.2.2.2.2.2.2.2.2.2.1 s.2.2.2.2.2.2.2.2.2.2.2.2.2.2) (fun n s hI hk => hs n s.1 s.2.1 s.2.2.1 s.2.2.2.1 s.2.2.2.2.1 s.2.2.2.2.2.1 s.2.2.2.2.2.2.1 s.2.2.2.2.2.2.2.1 s.2.2.2.2.2.2.2.2.1 s.2.2.2.2.2.2.2.2.2.1 s.2.2.2.2.2.2.2.2.2.2.1 s.2.2.2.2.2.2.2.2.2.2.2.1 s.2.2.2.2.2.2.2.2.2.2.2.2.1 s.2.2.2.2.2.2.2.2.2.2.2.2.2.1 s.2.2.2.2.2.2.2.2.2.2.2.2.2.2 hI (fun b1 b2 b3 b4 b5 b6 b7 b8 b9 b10 b11 b12 b13 b14 b15 h9 hm => hk (b1, b2, b3, b4, b5, b6, b7, b8, b9, b10, b11, b12, b13, b14, b15) h9 hm)) (a1, a2, a3, a4, a5, a6, a7, a8, a9, a10, a11, a12, a13, a14, a15) h
theorem lp16 {A1 A2 A3 A4 A5 A6 A7 A8 A9 A10 A11 A12 A13 A14 A15 A16 : Type} (W : Nat → A1 → A2 → A3 → A4 → A5 → A6 → A7 → A8 → A9 → A10 → A11 → A12 → A13 → A14 → A15 → A16 → Prop) (I : A1 → A2 → A3 → A4 → A5 → A6 → A7 → A8 → A9 → A10 → A11 → A12 → A13 → A14 → A15 → A16 → Prop) (μ : A1 → A2 → A3 → A4 → A5 → A6 → A7 → A8 → A9 → A10 → A11 → A12 → A13 → A14 → A15 → A16 → Nat) (hs : ∀ (n : Nat) (a1 : A1) (a2 : A2) (a3 : A3) (a4 : A4) (a5 : A5) (a6 : A6) (a7 : A7) (a8 : A8) (a9 : A9) (a10 : A10) (a11 : A11) (a12 : A12) (a13 : A13) (a14 : A14) (a15 : A15) (a16 : A16), I a1 a2 a3 a4 a5 a6 a7 a8 a9 a10 a11 a12 a13 a14 a15 a16 → (∀ (b1 : A1) (b2 : A2) (b3 : A3) (b4 : A4) (b5 : A5) (b6 : A6) (b7 : A7) (b8 : A8) (b9 : A9) (b10 : A10) (b11 : A11) (b12 : A12) (b13 : A13) (b14 : A14) (b15 : A15) (b16 : A16), I b1 b2 b3 b4 b5 b6 b7 b8 b9 b10 b11 b12 b13 b14 b15 b16 → μ b1 b2 b3 b4 b5 b6 b7 b8 b9 b10 b11 b12 b13 b14 b15 b16 < μ a1 a2 a3 a4 a5 a6 a7 a8 a9 a10 a11 a12 a13 a14 a15 a16 → W n b1 b2 b3 b4 b5 b6 b7 b8 b9 b10 b11 b12 b13 b14 b15 b16) → W (n + 1) a1 a2 a3 a4 a5 a6 a7 a8 a9 a10 a11 a12 a13 a14 a15 a16) (a1 : A1) (a2 : A2) (a3 : A3) (a4 : A4) (a5 : A5) (a6 : A6) (a7 : A7) (a8 : A8) (a9 : A9) (a10 : A10) (a11 : A11) (a12 : A12) (a13 : A13) (a14 : A14) (a15 : A15) (a16 : A16) (h : I a1 a2 a3 a4 a5 a6 a7 a8 a9 a10 a11 a12 a13 a14 a15 a16) : ∃ n, W n a1 a2 a3 a4 a5 a6 a7 a8 a9 a10 a11 a12 a13 a14 a15 a16 :=
  loop_m (σ := A1 × A2 × A3 × A4 × A5 × A6 × A7 × A8 × A9 × A10 × A11 × A12 × A13 × A14 × A15 × A16) (fun n s => W n s.1 s.2.1 s.2.2.1 s.2.2.2.1 s.2.2.2.2.1 s.2.2.2.2.2.1 s.2.2.2.2.2.2.1 s.2.2.2.2.2.2.2.1 s.2.2.2.2.2.2.2.2.1 s.2.2.2.2.2.2.2.2.2.1 s.2.2.2.2.2.2.2.2.2.2.1 s.2.2.2.2.2.2.2.2.2.2.2.1 s.2.2.2.2.2.2.2.2.2.2.2.2.1 s.2.2.2.2.2.2.2.2.2.2.2.2.2.1 s.2.2.2.2.2.2.2.2.2.2.2.2.2.2.1 s.2.2.2.2.2.2.2.2.2.2.2.2.2.2.2) (fun s => I s.1 s.2.1 s.2.2.1 s.2.2.2.1 s.2.2.2.2.1 s.2.2.2.2.2.1 s.2.2.2.2.2.2.1 s.2.2.2.2.2.2.2.1 s.2.2.2.2.2.2.2.2.1 s.2.2.2.2.2.2.2.2.2.1 s.2.2.2.2.2.2.2.2.2.2.1 s.2.2.2.2.2.2.2.2.2.2.2.1 s.2.2.2.2.2.2.2.2.2.2.2.2.1 s.2.2.2.2.2.2.2.2.2.2.2.2.2.1 s.2.2.2.2.2.2.2.2.2.2.2.2.2.2.1 s.2.2.2.2.2.2.2.2.2.2.2.2.2.2.2) (fun s => μ s.1 s.2.1 s.2.2.1 s.2.2.2.1 s.2.2.2.2.1 s.2.2.2.2.2.1 s.2.2.2.2.2.2.1 s.2.2.2.2.2.2.2.1 s.2.2.2.2.2.2.2.2.1 s.2.2.2.2.2.2.2.2.2.1 s.2.2.2.2.2.2.2.2.2.2.1 s.2.2.2.2.2.2.2.2.2.2.2.1 s.2.2.2.2.2.2.2.2.2.2.2.2.1 s.2.2.2.2.2.2.2.2.2.2.2.2.2.1 s.2.2.2.2.2.2.2.2.2.2.2.2.2.2.1 s.2.2.2.2.2.2.2.2.2.2.2.2.2.2.2) (fun n s hI hk => hs n s.1 s.2.1 s.2.2.1 s.2.2.2.1 s.2.2.2.2.1 s.2.2.2.2.2.1 s.2.2.2.2.2.2.1 s.2.2.2.2.2.2.2.1 s.2.2.2.2.2.2.2.2.1 s.2.2.2.2.2.2.2.2.2.1 s.2.2.2.2.2.2.2.2.2.2.1 s.2.2.2.2.2.2.2.2.2.2.2.1 s.2.2.2.2.2.2.2.2.2.2.2.2.1 s.2.2.2.2.2.2.2.2.2.2.2.2.2.1 s.2.2.2.2.2.2.2.2.2.2.2.2.2.2.1 s.2.2.2.2.2.2.2.2.2.2.2.2.2.2.2 hI (fun b1 b2 b3 b4 b5 b6 b7 b8 b9 b10 b11 b12 b13 b14 b15 b16 h9 hm => hk (b1, b2, b3, b4, b5, b6, b7, b8, b9, b10, b11, b12, b13, b14, b15, b16) h9 hm)) (a1, a2, a3, a4, a5, a6, a7, a8, a9, a10, a11, a12, a13, a14, a15, a16) h
theorem pk_least (P : Nat → Prop) (h : ∃ k, P k) : ∃ k, P k ∧ ∀ j, j < k → ¬ P j := by
  obtain ⟨k, hk⟩ := h
  induction k using Nat.strongRecOn with
  | ind k ih =>
    by_cases e : ∃ j, j < k ∧ P j
    · obtain ⟨j, hj, pj⟩ := e
      exact ih j hj pj
    · exact ⟨k, hk, fun j hj pj => e ⟨j, hj, pj⟩⟩
theorem rp1 {ρ A1 : Type} (W : Nat → (ρ → Prop) → A1 → Prop) (ok : A1 → Prop) (μ : A1 → Nat) (val : A1 → ρ)
    (hs : ∀ (d : Nat) (post : ρ → Prop) (a1 : A1), ok a1 → post (val a1) → (∀ (post' : ρ → Prop) (b1 : A1), ok b1 → μ b1 < μ a1 → post' (val b1) → W d post' b1) → W (d + 1) post a1) :
    ∀ (d : Nat) (post : ρ → Prop) (a1 : A1), ok a1 → μ a1 < d → post (val a1) → W d post a1 := by
  intro d
  induction d with
  | zero => intro post a1 _ h; omega
  | succ d ih =>
    intro post a1 ho hm hp
    exact hs d post a1 ho hp (fun post' b1 ho' hm' hp' => ih post' b1 ho' (by omega) hp')
theorem rp2 {ρ A1 A2 : Type} (W : Nat → (ρ → Prop) → A1 → A2 → Prop) (ok : A1 → A2 → Prop) (μ : A1 → A2 → Nat) (val : A1 → A2 → ρ)
    (hs : ∀ (d : Nat) (post : ρ → Prop) (a1 : A1) (a2 : A2), ok a1 a2 → post (val a1 a2) → (∀ (post' : ρ → Prop) (b1 : A1) (b2 : A2), ok b1 b2 → μ b1 b2 < μ a1 a2 → post' (val b1 b2) → W d post' b1 b2) → W (d + 1) post a1 a2) :
    ∀ (d : Nat) (post : ρ → Prop) (a1 : A1) (a2 : A2), ok a1 a2 → μ a1 a2 < d → post (val a1 a2) → W d post a1 a2 := by
  intro d
  induction d with
  | zero => intro post a1 a2 _ h; omega
  | succ d ih =>
    intro post a1 a2 ho hm hp
    exact hs d post a1 a2 ho hp (fun post' b1 b2 ho' hm' hp' => ih post' b1 b2 ho' (by omega) hp')
theorem rp3 {ρ A1 A2 A3 : Type} (W : Nat → (ρ → Prop) → A1 → A2 → A3 → Prop) (ok : A1 → A2 → A3 → Prop) (μ : A1 → A2 → A3 → Nat) (val : A1 → A2 → A3 → ρ)
    (hs : ∀ (d : Nat) (post : ρ → Prop) (a1 : A1) (a2 : A2) (a3 : A3), ok a1 a2 a3 → post (val a1 a2 a3) → (∀ (post' : ρ → Prop) (b1 : A1) (b2 : A2) (b3 : A3), ok b1 b2 b3 → μ b1 b2 b3 < μ a1 a2 a3 → post' (val b1 b2 b3) → W d post' b1 b2 b3) → W (d + 1) post a1 a2 a3) :
    ∀ (d : Nat) (post : ρ → Prop) (a1 : A1) (a2 : A2) (a3 : A3), ok a1 a2 a3 → μ a1 a2 a3 < d → post (val a1 a2 a3) → W d post a1 a2 a3 := by
  intro d
  induction d with
  | zero => intro post a1 a2 a3 _ h; omega
  | succ d ih =>
    intro post a1 a2 a3 ho hm hp
    exact hs d post a1 a2 a3 ho hp (fun post' b1 b2 b3 ho' hm' hp' => ih post' b1 b2 b3 ho' (by omega) hp')
theorem rp4 {ρ A1 A2 A3 A4 : Type} (W : Nat → (ρ → Prop) → A1 → A2 → A3 → A4 → Prop) (ok : A1 → A2 → A3 → A4 → Prop) (μ : A1 → A2 → A3 → A4 → Nat) (val : A1 → A2 → A3 → A4 → ρ)
    (hs : ∀ (d : Nat) (post : ρ → Prop) (a1 : A1) (a2 : A2) (a3 : A3) (a4 : A4), ok a1 a2 a3 a4 → post (val a1 a2 a3 a4) → (∀ (post' : ρ → Prop) (b1 : A1) (b2 : A2) (b3 : A3) (b4 : A4), ok b1 b2 b3 b4 → μ b1 b2 b3 b4 < μ a1 a2 a3 a4 → post' (val b1 b2 b3 b4) → W d post' b1 b2 b3 b4) → W (d + 1) post a1 a2 a3 a4) :
    ∀ (d : Nat) (post : ρ → Prop) (a1 : A1) (a2 : A2) (a3 : A3) (a4 : A4), ok a1 a2 a3 a4 → μ a1 a2 a3 a4 < d → post (val a1 a2 a3 a4) → W d post a1 a2 a3 a4 := by
  intro d
  induction d with
  | zero => intro post a1 a2 a3 a4 _ h; omega
  | succ d ih =>
    intro post a1 a2 a3 a4 ho hm hp
    exact hs d post a1 a2 a3 a4 ho hp (fun post' b1 b2 b3 b4 ho' hm' hp' => ih post' b1 b2 b3 b4 ho' (by omega) hp')
theorem rp5 {ρ A1 A2 A3 A4 A5 : Type} (W : Nat → (ρ → Prop) → A1 → A2 → A3 → A4 → A5 → Prop) (ok : A1 → A2 → A3 → A4 → A5 → Prop) (μ : A1 → A2 → A3 → A4 → A5 → Nat) (val : A1 → A2 → A3 → A4 → A5 → ρ)
    (hs : ∀ (d : Nat) (post : ρ → Prop) (a1 : A1) (a2 : A2) (a3 : A3) (a4 : A4) (a5 : A5), ok a1 a2 a3 a4 a5 → post (val a1 a2 a3 a4 a5) → (∀ (post' : ρ → Prop) (b1 : A1) (b2 : A2) (b3 : A3) (b4 : A4) (b5 : A5), ok b1 b2 b3 b4 b5 → μ b1 b2 b3 b4 b5 < μ a1 a2 a3 a4 a5 → post' (val b1 b2 b3 b4 b5) → W d post' b1 b2 b3 b4 b5) → W (d + 1) post a1 a2 a3 a4 a5) :
    ∀ (d : Nat) (post : ρ → Prop) (a1 : A1) (a2 : A2) (a3 : A3) (a4 : A4) (a5 : A5), ok a1 a2 a3 a4 a5 → μ a1 a2 a3 a4 a5 < d → post (val a1 a2 a3 a4 a5) → W d post a1 a2 a3 a4 a5 := by
  intro d
  induction d with
  | zero => intro post a1 a2 a3 a4 a5 _ h; omega
  | succ d ih =>
    intro post a1 a2 a3 a4 a5 ho hm hp
    exact hs d post a1 a2 a3 a4 a5 ho hp (fun post' b1 b2 b3 b4 b5 ho' hm' hp' => ih post' b1 b2 b3 b4 b5 ho' (by omega) hp')
theorem rp6 {ρ A1 A2 A3 A4 A5 A6 : Type} (W : Nat → (ρ → Prop) → A1 → A2 → A3 → A4 → A5 → A6 → Prop) (ok : A1 → A2 → A3 → A4 → A5 → A6 → Prop) (μ : A1 → A2 → A3 → A4 → A5 → A6 → Nat) (val : A1 → A2 → A3 → A4 → A5 → A6 → ρ)
    (hs : ∀ (d : Nat) (post : ρ → Prop) (a1 : A1) (a2 : A2) (a3 : A3) (a4 : A4) (a5 : A5) (a6 : A6), ok a1 a2 a3 a4 a5 a6 → post (val a1 a2 a3 a4 a5 a6) → (∀ (post' : ρ → Prop) (b1 : A1) (b2 : A2) (b3 : A3) (b4 : A4) (b5 : A5) (b6 : A6), ok b1 b2 b3 b4 b5 b6 → μ b1 b2 b3 b4 b5 b6 < μ a1 a2 a3 a4 a5 a6 → post' (val b1 b2 b3 b4 b5 b6) → W d post' b1 b2 b3 b4 b5 b6) → W (d + 1) post a1 a2 a3 a4 a5 a6) :
    ∀ (d : Nat) (post : ρ → Prop) (a1 : A1) (a2 : A2) (a3 : A3) (a4 : A4) (a5 : A5) (a6 : A6), ok a1 a2 a3 a4 a5 a6 → μ a1 a2 a3 a4 a5 a6 < d → post (val a1 a2 a3 a4 a5 a6) → W d post a1 a2 a3 a4 a5 a6 := by
  intro d
  induction d with
  | zero => intro post a1 a2 a3 a4 a5 a6 _ h; omega
  | succ d ih =>
    intro post a1 a2 a3 a4 a5 a6 ho hm hp
    exact hs d post a1 a2 a3 a4 a5 a6 ho hp (fun post' b1 b2 b3 b4 b5 b6 ho' hm' hp' => ih post' b1 b2 b3 b4 b5 b6 ho' (by omega) hp')
theorem rec_p {σ ρ : Type} (W : Nat → (ρ → Prop) → σ → Prop) (ok : σ → Prop) (μ : σ → Nat) (val : σ → ρ)
    (hs : ∀ d s post, ok s → post (val s) → (∀ s' post', ok s' → μ s' < μ s → post' (val s') → W d post' s') → W (d + 1) post s) :
    ∀ d s post, ok s → μ s < d → post (val s) → W d post s := by
  intro d
  induction d with
  | zero => intro s post _ h; omega
  | succ d ih =>
    intro s post ho hm hp
    exact hs d s post ho hp (fun s' post' ho' hm' hp' => ih s' post' ho' (by omega) hp')
theorem rec_q {σ ρ : Type} (W : Nat → (ρ → Prop) → σ → Prop) (ok : σ → Prop) (μ : σ → Nat) (Q : σ → ρ → Prop)
    (hs : ∀ d s post, ok s → (∀ r, Q s r → post r) → (∀ s' post', ok s' → μ s' < μ s → (∀ r, Q s' r → post' r) → W d post' s') → W (d + 1) post s) :
    ∀ d s post, ok s → μ s < d → (∀ r, Q s r → post r) → W d post s := by
  intro d
  induction d with
  | zero => intro s post _ h; omega
  | succ d ih =>
    intro s post ho hm hp
    exact hs d s post ho hp (fun s' post' ho' hm' hp' => ih s' post' ho' (by omega) hp')
def bx_sum (f : Nat → Int32) : Nat → Int32
  | 0 => 0
  | n + 1 => bx_sum f n + f n
theorem ek_u {A : Prop} {B : Nat → Prop} {k N : Nat} (hk : k < N) (h : B k) : (some k = none → A) ∧ (∀ y : Nat, some k = some y → (y < N ∧ B y)) :=
  ⟨fun z => absurd z (Option.some_ne_none k), fun _ e => (by cases e; exact ⟨hk, h⟩)⟩
theorem ek_nu {A : Prop} {B : Nat → Prop} (h : A) : ((none : Option Nat) = none → A) ∧ (∀ y : Nat, (none : Option Nat) = some y → B y) :=
  ⟨fun _ => h, fun _ e => (by cases e)⟩
theorem ek_if {c d A B : Prop} (e : c ↔ d) (f : d → A) (g : ¬ d → B) : (c → A) ∧ (¬ c → B) :=
  ⟨fun z => f (e.mp z), fun z => g (fun y => z (e.mpr y))⟩
theorem ek_v {α : Sort _} {P : α → Prop} {a b : α} (e : a = b) (h : P b) : P a := e ▸ h
theorem co_some {x : Option Nat} {A : Prop} {B : Nat → Prop} (i : Nat) (h : B i) (hx : x = some i := by rfl) : (x = none → A) ∧ (∀ y : Nat, x = some y → B y) := by
  subst hx
  exact ⟨fun e => (nomatch e), fun y e => Option.some.inj e ▸ h⟩
theorem co_none {x : Option Nat} {A : Prop} {B : Nat → Prop} (h : A) (hx : x = none := by rfl) : (x = none → A) ∧ (∀ y : Nat, x = some y → B y) := by
  subst hx
  exact ⟨fun _ => h, fun y e => (nomatch e)⟩
theorem co_any {x : Option Nat} {A : Prop} {B : Nat → Prop} (hn : x = none → A) (hs : ∀ i : Nat, x = some i → B i) : (x = none → A) ∧ (∀ y : Nat, x = some y → B y) := ⟨hn, hs⟩
theorem co_2 {P : Nat → Prop} (h0 : P 0) (h1 : P 1) {i : Nat} (hi : i < 2) : P i :=
  match i, hi with
  | 0, _ => h0
  | 1, _ => h1
theorem co_3 {P : Nat → Prop} (h0 : P 0) (h1 : P 1) (h2 : P 2) {i : Nat} (hi : i < 3) : P i :=
  match i, hi with
  | 0, _ => h0
  | 1, _ => h1
  | 2, _ => h2
theorem co_4 {P : Nat → Prop} (h0 : P 0) (h1 : P 1) (h2 : P 2) (h3 : P 3) {i : Nat} (hi : i < 4) : P i :=
  match i, hi with
  | 0, _ => h0
  | 1, _ => h1
  | 2, _ => h2
  | 3, _ => h3
theorem co_dec {N : Nat} {P : Nat → Prop} [DecidablePred P] (h : (List.range N).all (fun i => decide (P i)) = true) {i : Nat} (hi : i < N) : P i := by
  have := List.all_eq_true.mp h i (List.mem_range.mpr hi)
  exact of_decide_eq_true this
theorem co_tab {α : Type} {l : List α} {d : α} {P : α → Prop} (h : ∀ a, a ∈ l → P a) {i : Nat} (hi : i < l.length) : P (l.getD i d) := by
  rw [List.getD_eq_getElem?_getD, List.getElem?_eq_getElem hi]
  exact h _ (List.getElem_mem hi)
theorem pk_mu {x : Int32} {L : Nat} (h0 : ¬ x < 0) (h : ¬ nI L ≤ x) (hL : L < 2 ^ 31) : ∃ j : Nat, j < L ∧ x = nI j ∧ x + 1 = nI (j + 1) ∧ x.toNatClampNeg = j ∧ L - (x + 1).toNatClampNeg < L - x.toNatClampNeg := by
  obtain ⟨j, hj, rfl⟩ := nI_of h0
  have hl : j < L := Nat.not_le.mp fun q => h (nI_le q hj)
  refine ⟨j, hl, rfl, nI_1 j, nI_clamp hj, ?_⟩
  rw [nI_1, nI_clamp (by omega), nI_clamp hj]
  omega
theorem op_s {α : Type} {r : Option α} {A : Prop} {B : α → Prop} {y : α} (h : r = some y) (b : B y) : (r = none → A) ∧ ∀ z, r = some z → B z :=
  ⟨fun e => (by rw [h] at e; cases e), fun z e => (by rw [h] at e; cases e; exact b)⟩
def l_holds {α : Type} (a : Nat → Option Nat) (LP : List Nat) (p : Nat → α) (c : Nat) (b : Nat → α) : Prop :=
  ∀ j, j < c → ∃ y, a j = some y ∧ y ∈ LP ∧ p y = b j
theorem l_holds_0 {α : Type} {a : Nat → Option Nat} {LP : List Nat} {p b : Nat → α} : l_holds a LP p 0 b := fun j h => absurd h (Nat.not_lt_zero j)
theorem l_in_new (LP : List Nat) (q : Nat) : q ∈ LP ++ [q] := List.mem_append.mpr (Or.inr (List.mem_singleton.mpr rfl))
def l_sum (b : Nat → Int32) : Nat → Int32
  | 0 => 0
  | k + 1 => l_sum b k + b k
theorem sb_shr0 (x : Int32) : x >>> ((0 : Int32) &&& 31) = x := by
  rw [show ((0 : Int32) &&& 31) = 0 by decide]
  simp
theorem sb_shl0 (x : Int32) : x <<< ((0 : Int32) &&& 31) = x := by
  rw [show ((0 : Int32) &&& 31) = 0 by decide]
  simp
theorem sb_cl0 : (0 : Int32).toNatClampNeg = 0 := by decide
theorem sb_m1 {p : Nat} (h : 0 < p) : nI p + (-1) = nI (p - 1) := by
  obtain ⟨q, rfl⟩ : ∃ q, p = q + 1 := ⟨p - 1, by omega⟩
  exact pk_m1 q
def sb_b (c : Nat) : Int32 := (nI c).toInt8.toInt32
theorem sb_byte : ∀ c, c < 256 → sb_b c &&& 255 = nI c ∧ ((nI c).toUInt32 % 65536).toInt32 = nI c ∧ nI c ≤ 255 := by decide +kernel
def sb_Fit (a : Nat → Int32) : Prop := ∀ j, fits .byte (.int (a j)) = true
def sb_Lat (t : Nat → Nat) (n : Nat) (a : Nat → Int32) : Prop := ∀ j, j < n → t j < 256 ∧ a j = sb_b (t j)
theorem sb_fitB (c : Nat) : fits .byte (.int (sb_b c)) = true := pk_fb _
theorem sb_fit0 : sb_Fit (fun _ => 0) := fun _ => by
  show fits .byte (.int 0) = true
  decide
theorem sb_fitU {a : Nat → Int32} {k : Nat} {x : Int32} (h : sb_Fit a) (hx : fits .byte (.int x) = true) : sb_Fit (upd a k x) := by
  intro j
  by_cases e : j = k
  · subst e
    rw [pk_us]
    exact hx
  · rw [pk_un e]
    exact h j
def sb_cat (t : Nat → Nat) (n : Nat) (s : Nat → Nat) : Nat → Nat := fun j => if j < n then t j else s (j - n)
theorem sb_cat_lo {t s : Nat → Nat} {n j : Nat} (h : j < n) : sb_cat t n s j = t j := if_pos h
theorem sb_cat_hi {t s : Nat → Nat} {n j : Nat} : sb_cat t n s (n + j) = s j := by
  show (if n + j < n then t (n + j) else s (n + j - n)) = s j
  rw [if_neg (by omega), Nat.add_sub_cancel_left]
theorem sb_latPut {t s : Nat → Nat} {n w : Nat} {a a' : Nat → Int32} (h : sb_Lat t n a) (hk : ∀ j, j < n → a' j = a j) (hs : ∀ i, i < w → s i < 256 ∧ a' (n + i) = sb_b (s i)) : sb_Lat (sb_cat t n s) (n + w) a' := by
  intro j hj
  by_cases e : j < n
  · rw [sb_cat_lo e, hk j e]
    exact h j e
  · obtain ⟨i, rfl⟩ : ∃ i, j = n + i := ⟨j - n, by omega⟩
    rw [sb_cat_hi]
    exact hs i (by omega)
theorem sb_latKeep {t : Nat → Nat} {n : Nat} {a a' : Nat → Int32} (h : sb_Lat t n a) (hk : ∀ j, j < n → a' j = a j) : sb_Lat t n a' := fun j hj => by
  rw [hk j hj]
  exact h j hj
def sb_cap (q m : Nat) : Nat := if q ≤ m then m else if 2 * m + 2 < q then q else 2 * m + 2
def sb_Room (q m mc ms : Nat) : Prop := q ≤ m ∨ (1 ≤ mc ∧ sb_cap q m ≤ ms ∧ sb_cap q m ≤ 65536)
theorem sb_cap_ge (q m : Nat) : q ≤ sb_cap q m := by
  unfold sb_cap
  split
  · omega
  · split <;> omega
theorem sb_cap_gem (q m : Nat) : m ≤ sb_cap q m := by
  unfold sb_cap
  split
  · omega
  · split <;> omega
theorem sb_cap_le {q m mc ms : Nat} (hm : m ≤ 65536) (hr : sb_Room q m mc ms) : sb_cap q m ≤ 65536 := by
  rcases hr with h | h
  · rw [sb_cap, if_pos h]
    exact hm
  · exact h.2.2
theorem sb_at {P : Int32 → Prop} {x y : Int32} (e : x = y) (h : P y) : P x := e ▸ h
def sb_dg (w : Nat) : Nat := if w < 10 then 1 else if w < 100 then 2 else if w < 1000 then 3 else if w < 10000 then 4 else if w < 100000 then 5 else if w < 1000000 then 6 else if w < 10000000 then 7 else if w < 100000000 then 8 else if w < 1000000000 then 9 else 10
def sb_dec (v : Nat) : Nat → Nat := fun i => 48 + v / 10 ^ (sb_dg v - 1 - i) % 10
theorem sb_dg_in (w : Nat) : 1 ≤ sb_dg w ∧ sb_dg w ≤ 10 := by
  unfold sb_dg
  constructor <;> (repeat' split) <;> omega
theorem sb_dg100 {w : Nat} (h : 100 ≤ w) (hw : w < 2 ^ 31) : sb_dg w = sb_dg (w / 100) + 2 := by
  rw [sb_dg, sb_dg, if_neg (show ¬ w < 10 by omega), if_neg (show ¬ w < 100 by omega)]
  by_cases h3 : w < 1000
  · rw [if_pos h3, if_pos (show w / 100 < 10 by omega)]
  rw [if_neg h3, if_neg (show ¬ w / 100 < 10 by omega)]
  by_cases h4 : w < 10000
  · rw [if_pos h4, if_pos (show w / 100 < 100 by omega)]
  rw [if_neg h4, if_neg (show ¬ w / 100 < 100 by omega)]
  by_cases h5 : w < 100000
  · rw [if_pos h5, if_pos (show w / 100 < 1000 by omega)]
  rw [if_neg h5, if_neg (show ¬ w / 100 < 1000 by omega)]
  by_cases h6 : w < 1000000
  · rw [if_pos h6, if_pos (show w / 100 < 10000 by omega)]
  rw [if_neg h6, if_neg (show ¬ w / 100 < 10000 by omega)]
  by_cases h7 : w < 10000000
  · rw [if_pos h7, if_pos (show w / 100 < 100000 by omega)]
  rw [if_neg h7, if_neg (show ¬ w / 100 < 100000 by omega)]
  by_cases h8 : w < 100000000
  · rw [if_pos h8, if_pos (show w / 100 < 1000000 by omega)]
  rw [if_neg h8, if_neg (show ¬ w / 100 < 1000000 by omega)]
  by_cases h9 : w < 1000000000
  · rw [if_pos h9, if_pos (show w / 100 < 10000000 by omega)]
  rw [if_neg h9, if_neg (show ¬ w / 100 < 10000000 by omega)]
  rw [if_pos (show w / 100 < 100000000 by omega)]
theorem sb_negT {w : Nat} (h : w < 2 ^ 31) : (-nI w).toInt = -(w : Int) := by
  rw [Int32.toInt_neg, nI_toInt h]
  exact Int.bmod_eq_of_le (by omega) (by omega)
theorem sb_nle {a b : Nat} (ha : a < 2 ^ 31) (hb : b < 2 ^ 31) : -nI a ≤ -nI b ↔ b ≤ a := by
  rw [Int32.le_iff_toInt_le, sb_negT ha, sb_negT hb]
  omega
theorem sb_nlt {a b : Nat} (ha : a < 2 ^ 31) (hb : b < 2 ^ 31) : -nI a < -nI b ↔ b < a := by
  rw [Int32.lt_iff_toInt_lt, sb_negT ha, sb_negT hb]
  omega
theorem sb_cmp {A B : Prop} {x : Int32} (v c : Nat) (f : c ≤ v → A) (g : v < c → B) (hv : v < 2 ^ 31) (hx : x = -nI c := by rfl) (hc : c < 2 ^ 31 := by omega) : (-nI v ≤ x → A) ∧ (¬ -nI v ≤ x → B) := by
  subst hx
  rw [sb_nle hv hc]
  exact ⟨f, fun z => g (by omega)⟩
theorem sb_ndiv {w : Nat} (hw : w < 2 ^ 31) : (-nI w) / 100 = -nI (w / 100) := by
  apply Int32.toInt_inj.mp
  have h100 : (100 : Int32).toInt = 100 := by decide
  rw [Int32.toInt_div, sb_negT hw, h100, sb_negT (by omega), Int.neg_tdiv, Int.tdiv_eq_ediv_of_nonneg (by omega), Int.bmod_eq_of_le (by omega) (by omega)]
  omega
theorem sb_nrem {w : Nat} (hw : w < 2 ^ 31) : (-nI (w / 100)) * 100 - (-nI w) = nI (w % 100) := by
  have h := pk_rem (a := w) (d := 100) hw (by decide) (by decide)
  rw [pk_div hw (by decide) (by decide)] at h
  rw [← h]
  show (-nI (w / 100)) * nI 100 - (-nI w) = nI w - nI (w / 100) * nI 100
  rw [Int32.neg_mul, Int32.sub_neg, Int32.add_comm, ← Int32.sub_eq_add_neg]
/-! ===== Int32 by its bits: bt x i ===== -/
def bt (x : Int32) (i : Nat) : Bool := x.toBitVec.getLsbD i
theorem b_ext {x y : Int32} (h : ∀ i, i < 32 → bt x i = bt y i) : x = y := Int32.toBitVec_inj.mp (BitVec.eq_of_getLsbD_eq (fun i hi => h i hi))
theorem b_or (x y : Int32) (i : Nat) : bt (x ||| y) i = (bt x i || bt y i) := by unfold bt; rw [Int32.toBitVec_or, BitVec.getLsbD_or]
theorem b_and (x y : Int32) (i : Nat) : bt (x &&& y) i = (bt x i && bt y i) := by unfold bt; rw [Int32.toBitVec_and, BitVec.getLsbD_and]
theorem b_xor (x y : Int32) (i : Nat) : bt (x ^^^ y) i = (bt x i ^^ bt y i) := by unfold bt; rw [Int32.toBitVec_xor, BitVec.getLsbD_xor]
theorem b_big {x : Int32} {i : Nat} (h : 32 ≤ i) : bt x i = false := BitVec.getLsbD_of_ge _ _ h
theorem b_255 (i : Nat) : bt 255 i = decide (i < 8) := by
  rcases Nat.lt_or_ge i 32 with h | h
  · exact (by decide +kernel : ∀ i, i < 32 → bt 255 i = decide (i < 8)) i h
  · rw [b_big h, decide_eq_false (by omega)]
theorem b_65535 (i : Nat) : bt 65535 i = decide (i < 16) := by
  rcases Nat.lt_or_ge i 32 with h | h
  · exact (by decide +kernel : ∀ i, i < 32 → bt 65535 i = decide (i < 16)) i h
  · rw [b_big h, decide_eq_false (by omega)]
theorem b_m1 : ∀ i, i < 32 → bt (-1) i = true := by decide +kernel
theorem b_0 (i : Nat) : bt 0 i = false := BitVec.getLsbD_zero
theorem s_l : ∀ n, n < 32 → ((nI n &&& 31).toBitVec.smod 32).toNat = n := by decide +kernel
theorem s_u : ∀ n, n < 32 → (((nI n).toUInt32 &&& Int32.toUInt32 31).toBitVec % 32).toNat = n := by decide +kernel
theorem b_shl (n : Nat) (hn : n < 32) (x : Int32) {i : Nat} (hi : i < 32) : bt (x <<< (nI n &&& 31)) i = (decide (n ≤ i) && bt x (i - n)) := by
  unfold bt
  rw [Int32.toBitVec_shiftLeft]
  show (x.toBitVec <<< ((nI n &&& 31).toBitVec.smod 32).toNat).getLsbD i = _
  rw [s_l n hn, BitVec.getLsbD_shiftLeft]
  rcases Nat.lt_or_ge i n with h | h
  · simp [h, Nat.not_le.mpr h]
  · simp [hi, h, Nat.not_lt.mpr h]
theorem b_ushr (n : Nat) (hn : n < 32) (x : Int32) (i : Nat) : bt ((x.toUInt32 >>> ((nI n).toUInt32 &&& Int32.toUInt32 31)).toInt32) i = bt x (n + i) := by
  show (x.toUInt32 >>> ((nI n).toUInt32 &&& Int32.toUInt32 31)).toBitVec.getLsbD i = x.toUInt32.toBitVec.getLsbD (n + i)
  rw [UInt32.toBitVec_shiftRight]
  show (x.toUInt32.toBitVec >>> (((nI n).toUInt32 &&& Int32.toUInt32 31).toBitVec % 32).toNat).getLsbD i = _
  rw [s_u n hn, BitVec.getLsbD_ushiftRight]
theorem b_sshr (n : Nat) (hn : n < 32) (x : Int32) {i : Nat} (hi : i < 32) : bt (x >>> (nI n &&& 31)) i = if n + i < 32 then bt x (n + i) else bt x 31 := by
  unfold bt
  rw [Int32.toBitVec_shiftRight]
  show (x.toBitVec.sshiftRight ((nI n &&& 31).toBitVec.smod 32).toNat).getLsbD i = _
  rw [s_l n hn, BitVec.getLsbD_sshiftRight, BitVec.msb_eq_getLsbD_last]
  simp [hi]
theorem b_shl8 (x : Int32) {i : Nat} (hi : i < 32) : bt (x <<< ((8 : Int32) &&& 31)) i = (decide (8 ≤ i) && bt x (i - 8)) := b_shl 8 (by omega) x hi
theorem b_shl16 (x : Int32) {i : Nat} (hi : i < 32) : bt (x <<< ((16 : Int32) &&& 31)) i = (decide (16 ≤ i) && bt x (i - 16)) := b_shl 16 (by omega) x hi
theorem b_shl24 (x : Int32) {i : Nat} (hi : i < 32) : bt (x <<< ((24 : Int32) &&& 31)) i = (decide (24 ≤ i) && bt x (i - 24)) := b_shl 24 (by omega) x hi
theorem b_sshr8 (x : Int32) {i : Nat} (hi : i < 32) : bt (x >>> ((8 : Int32) &&& 31)) i = if 8 + i < 32 then bt x (8 + i) else bt x 31 := b_sshr 8 (by omega) x hi
/-! ===== nI under and, xor, >>>, one bit, 65535 ===== -/
theorem nx_and (a b : Nat) : nI a &&& nI b = nI (a &&& b) := by
  apply Int32.toBitVec_inj.1
  show BitVec.ofNat 32 a &&& BitVec.ofNat 32 b = BitVec.ofNat 32 (a &&& b)
  apply BitVec.eq_of_getLsbD_eq
  intro i hi
  simp [hi]
theorem nx_xor (a b : Nat) : nI a ^^^ nI b = nI (a ^^^ b) := by
  apply Int32.toBitVec_inj.1
  show BitVec.ofNat 32 a ^^^ BitVec.ofNat 32 b = BitVec.ofNat 32 (a ^^^ b)
  apply BitVec.eq_of_getLsbD_eq
  intro i hi
  simp [hi]
theorem nx_cnt : ∀ j : Fin 32, (UInt32.ofNat j.val &&& Int32.toUInt32 31).toNat % 32 = j.val := by decide +kernel
theorem nx_ush {k j : Nat} (hk : k < 65536) (hj : j < 32) : ((nI k).toUInt32 >>> ((nI j).toUInt32 &&& Int32.toUInt32 31)).toInt32 = nI (k >>> j) := by
  have hs : k >>> j ≤ k := by
    rw [Nat.shiftRight_eq_div_pow]
    exact Nat.div_le_self _ _
  have e2 : UInt32.ofNat k >>> (UInt32.ofNat j &&& Int32.toUInt32 31) = UInt32.ofNat (k >>> j) := by
    apply UInt32.toNat_inj.1
    have h1 : (UInt32.ofNat k).toNat = k := Nat.mod_eq_of_lt (by omega)
    have h2 : (UInt32.ofNat (k >>> j)).toNat = k >>> j := Nat.mod_eq_of_lt (by omega)
    rw [UInt32.toNat_shiftRight, nx_cnt ⟨j, hj⟩, h1, h2]
  show (UInt32.ofNat k >>> (UInt32.ofNat j &&& Int32.toUInt32 31)).toInt32 = _
  rw [e2]
  rfl
theorem nx_bit {k j : Nat} (hk : k < 65536) (hj : j < 16) : (((nI k).toUInt32 >>> ((nI j).toUInt32 &&& Int32.toUInt32 31)).toInt32 &&& 1) = 0 ↔ k.testBit j = false := by
  rw [nx_ush hk (by omega)]
  show nI (k >>> j) &&& nI 1 = 0 ↔ _
  rw [nx_and, Nat.and_one_is_mod, ← nI_0, nI_eq (by omega) (by omega), Nat.testBit_eq_decide_div_mod_eq, Nat.shiftRight_eq_div_pow, decide_eq_false_iff_not]
  generalize k / 2 ^ j = z
  omega
theorem nx_mod (k : Nat) : nI k &&& 65535 = nI (k % 65536) := by
  show nI k &&& nI 65535 = _
  rw [nx_and, show (65535 : Nat) = 2 ^ 16 - 1 from rfl, Nat.and_two_pow_sub_one_eq_mod]
theorem nx_m16 {k : Nat} (h : k < 65536) : nI k &&& 65535 = nI k := by rw [nx_mod, Nat.mod_eq_of_lt h]
theorem nx_mask (x : Int32) : ∃ k, k < 65536 ∧ x &&& 65535 = nI k := by
  have e : x = nI x.toBitVec.toNat := by
    apply Int32.toBitVec_inj.1
    show x.toBitVec = BitVec.ofNat 32 x.toBitVec.toNat
    simp
  refine ⟨x.toBitVec.toNat % 65536, Nat.mod_lt _ (by omega), ?_⟩
  rw [← nx_mod, ← e]
end
section
/-! bits of nI, sums, sets as numbers -/
theorem dp_bt {i : Nat} (a : Nat) (hi : i < 32) : bt (nI a) i = a.testBit i := by
  show (BitVec.ofNat 32 a).getLsbD i = _
  rw [BitVec.getLsbD_ofNat, decide_eq_true hi, Bool.true_and]
theorem dp_or (a b : Nat) : nI a ||| nI b = nI (a ||| b) := by
  apply b_ext
  intro i hi
  rw [b_or, dp_bt a hi, dp_bt b hi, dp_bt _ hi, Nat.testBit_or]
def dp_dn (a b : Nat) : Nat := a ^^^ (a &&& b)
theorem dp_dnT (a b i : Nat) : (dp_dn a b).testBit i = (a.testBit i && !b.testBit i) := by
  unfold dp_dn
  rw [Nat.testBit_xor, Nat.testBit_and]
  cases a.testBit i <;> cases b.testBit i <;> rfl
theorem dp_dnI {a b i : Nat} : (dp_dn a b).testBit i = true ↔ a.testBit i = true ∧ b.testBit i = false := by
  rw [dp_dnT]
  cases a.testBit i <;> cases b.testBit i <;> simp
theorem dp_orI {a b i : Nat} : (a ||| b).testBit i = true ↔ a.testBit i = true ∨ b.testBit i = true := by
  rw [Nat.testBit_or, Bool.or_eq_true]
theorem dp_anI {a b i : Nat} : (a &&& b).testBit i = true ↔ a.testBit i = true ∧ b.testBit i = true := by
  rw [Nat.testBit_and, Bool.and_eq_true]
theorem dp_pwI {v i : Nat} : (2 ^ v).testBit i = true ↔ i = v := by
  rw [Nat.testBit_two_pow, decide_eq_true_iff]
  exact eq_comm
theorem dp_bf {b : Bool} : b = false ↔ ¬ b = true := by cases b <;> simp
theorem dp_ext {a b : Nat} (h : ∀ i, a.testBit i = true ↔ b.testBit i = true) : a = b := by
  apply Nat.eq_of_testBit_eq
  intro i
  exact Bool.eq_iff_iff.mpr (h i)
theorem dp_andn (a b : Nat) : nI a &&& (nI b ^^^ (-1)) = nI (dp_dn a b) := by
  apply b_ext
  intro i hi
  rw [b_and, b_xor, b_m1 i hi, dp_bt a hi, dp_bt b hi, dp_bt _ hi, dp_dnT]
  cases a.testBit i <;> cases b.testBit i <;> rfl
theorem dp_shl : ∀ v, v < 16 → (1 : Int32) <<< (nI v &&& 31) = nI (2 ^ v) := by decide +kernel
theorem dp_tn_le (b : Bool) : b.toNat ≤ 1 := by cases b <;> decide
theorem dp_bit {a v : Nat} (ha : a < 2 ^ 31) (hv : v < 32) : (nI a >>> (nI v &&& 31)) &&& 1 = nI (a.testBit v).toNat := by
  have hd : a / 2 ^ v ≤ a := Nat.div_le_self _ _
  rw [pk_shrN ha _ v (s_l v hv), Nat.toNat_testBit]
  have h := pk_andN (n := a / 2 ^ v) (by omega) (m := 1) 1 (by decide)
  rw [h]
theorem dp_bit1 {a v : Nat} (ha : a < 2 ^ 31) (hv : v < 32) : ((nI a >>> (nI v &&& 31)) &&& 1 = 1) ↔ a.testBit v = true := by
  rw [dp_bit ha hv]
  cases a.testBit v
  · exact ⟨fun h => absurd h (by decide), fun h => absurd h (by decide)⟩
  · exact ⟨fun _ => rfl, fun _ => by decide⟩
theorem dp_bit0 {a v : Nat} (ha : a < 2 ^ 31) (hv : v < 32) : ((nI a >>> (nI v &&& 31)) &&& 1 = 0) ↔ a.testBit v = false := by
  rw [dp_bit ha hv]
  cases a.testBit v
  · exact ⟨fun _ => rfl, fun _ => by decide⟩
  · exact ⟨fun h => absurd h (by decide), fun h => absurd h (by decide)⟩
/-! sums -/
def dp_sm (f : Nat → Nat) : Nat → Nat
  | 0 => 0
  | k + 1 => dp_sm f k + f k
theorem dp_smC {f h : Nat → Nat} : ∀ {N : Nat}, (∀ i, i < N → f i = h i) → dp_sm f N = dp_sm h N
  | 0, _ => rfl
  | N + 1, H => by
    show dp_sm f N + f N = dp_sm h N + h N
    rw [dp_smC (fun i hi => H i (by omega)), H N (by omega)]
theorem dp_smA (f h : Nat → Nat) : ∀ N : Nat, dp_sm (fun i => f i + h i) N = dp_sm f N + dp_sm h N
  | 0 => rfl
  | N + 1 => by
    show dp_sm (fun i => f i + h i) N + (f N + h N) = (dp_sm f N + f N) + (dp_sm h N + h N)
    rw [dp_smA f h N]; omega
theorem dp_smL {f h : Nat → Nat} : ∀ {N : Nat}, (∀ i, i < N → f i ≤ h i) → dp_sm f N ≤ dp_sm h N
  | 0, _ => Nat.le_refl _
  | N + 1, H => Nat.add_le_add (dp_smL (fun i hi => H i (by omega))) (H N (by omega))
theorem dp_sm0 {f : Nat → Nat} : ∀ {N : Nat}, (∀ i, i < N → f i = 0) → dp_sm f N = 0
  | 0, _ => rfl
  | N + 1, H => by
    show dp_sm f N + f N = 0
    rw [dp_sm0 (fun i hi => H i (by omega)), H N (by omega)]
theorem dp_smT {f : Nat → Nat} {i : Nat} : ∀ {N : Nat}, i < N → f i ≤ dp_sm f N
  | 0, h => by omega
  | N + 1, h => by
    show f i ≤ dp_sm f N + f N
    rcases Nat.lt_or_ge i N with z | z
    · have := dp_smT (f := f) z; omega
    · have e : i = N := by omega
      rw [e]; omega
theorem dp_smT2 {f : Nat → Nat} {i j : Nat} (hij : i < j) : ∀ {N : Nat}, j < N → f i + f j ≤ dp_sm f N
  | 0, h => by omega
  | N + 1, h => by
    show f i + f j ≤ dp_sm f N + f N
    rcases Nat.lt_or_ge j N with z | z
    · have := dp_smT2 (f := f) hij z; omega
    · have e : j = N := by omega
      have := dp_smT (f := f) (i := i) (N := N) (by omega)
      rw [e]; omega
theorem dp_smP {f : Nat → Nat} : ∀ {N : Nat}, 0 < dp_sm f N → ∃ i, i < N ∧ 0 < f i
  | 0, h => absurd h (Nat.lt_irrefl 0)
  | N + 1, h => by
    have h' : 0 < dp_sm f N + f N := h
    rcases Nat.eq_zero_or_pos (f N) with z | z
    · obtain ⟨i, hi, hp⟩ := dp_smP (f := f) (N := N) (by omega)
      exact ⟨i, by omega, hp⟩
    · exact ⟨N, by omega, z⟩
theorem dp_smW (f : Nat → Nat → Nat) (N : Nat) : ∀ M : Nat, dp_sm (fun a => dp_sm (fun b => f a b) N) M = dp_sm (fun b => dp_sm (fun a => f a b) M) N
  | 0 => (dp_sm0 (fun _ _ => rfl)).symm
  | M + 1 => by
    show dp_sm (fun a => dp_sm (fun b => f a b) N) M + dp_sm (fun b => f M b) N = dp_sm (fun b => dp_sm (fun a => f a b) M + f M b) N
    rw [dp_smA, dp_smW f N M]
theorem dp_smU {f h : Nat → Nat} {i : Nat} (H : ∀ j, j ≠ i → f j = h j) : ∀ {N : Nat}, i < N → dp_sm f N + h i = dp_sm h N + f i
  | 0, hi => by omega
  | N + 1, hi => by
    show dp_sm f N + f N + h i = dp_sm h N + h N + f i
    rcases Nat.lt_or_ge i N with z | z
    · have a := dp_smU H z
      have b := H N (by omega)
      omega
    · have e : i = N := by omega
      have a : dp_sm f N = dp_sm h N := dp_smC (fun j hj => H j (by omega))
      rw [e, a]; omega
theorem dp_smI {x i N : Nat} (hi : i < N) : dp_sm (fun a => if a = i then x else 0) N = x := by
  have a := dp_smU (f := fun a => if a = i then x else 0) (h := fun _ => 0) (i := i) (fun j hj => if_neg hj) hi
  have b : dp_sm (fun _ => 0) N = 0 := dp_sm0 (fun _ _ => rfl)
  simp only [if_pos] at a
  omega
theorem dp_sm2 (f : Nat → Nat) : ∀ N : Nat, dp_sm f (2 * N) = dp_sm (fun v => f (2 * v) + f (2 * v + 1)) N
  | 0 => rfl
  | N + 1 => by
    show dp_sm f (2 * N) + f (2 * N) + f (2 * N + 1) = dp_sm (fun v => f (2 * v) + f (2 * v + 1)) N + (f (2 * N) + f (2 * N + 1))
    rw [dp_sm2 f N]; omega
theorem dp_sm16 (f : Nat → Nat) : dp_sm f 16 = dp_sm (fun v => f (2 * v) + f (2 * v + 1)) 8 := dp_sm2 f 8
theorem dp_smK (c : Nat) : ∀ N : Nat, dp_sm (fun _ => c) N = N * c
  | 0 => (Nat.zero_mul c).symm
  | N + 1 => by
    show dp_sm (fun _ => c) N + c = (N + 1) * c
    rw [dp_smK c N, Nat.succ_mul]
/-! sets -/
def dp_sb (a b : Nat) : Prop := ∀ i, a.testBit i = true → b.testBit i = true
theorem dp_sbI {a b : Nat} : a &&& b = a ↔ dp_sb a b := by
  constructor
  · intro h i hi
    have e : (a &&& b).testBit i = true := by rw [h]; exact hi
    exact (dp_anI.mp e).2
  · intro h
    apply dp_ext
    intro i
    rw [dp_anI]
    exact ⟨fun z => z.1, fun z => ⟨z, h i z⟩⟩
theorem dp_sb_le {a b : Nat} (h : dp_sb a b) : a ≤ b := Nat.le_of_testBit h
theorem dp_sb_rf (a : Nat) : dp_sb a a := fun _ h => h
theorem dp_sb_tr {a b c : Nat} (h : dp_sb a b) (k : dp_sb b c) : dp_sb a c := fun i z => k i (h i z)
theorem dp_dn_sb (a b : Nat) : dp_sb (dp_dn a b) a := fun _ h => (dp_dnI.mp h).1
theorem dp_mk (p : Nat → Prop) : ∀ N : Nat, ∃ m : Nat, ∀ i, m.testBit i = true ↔ (i < N ∧ p i)
  | 0 => ⟨0, fun i => by rw [Nat.zero_testBit]; exact ⟨fun h => absurd h (by decide), fun h => absurd h.1 (by omega)⟩⟩
  | N + 1 => by
    obtain ⟨m, h⟩ := dp_mk p N
    by_cases hN : p N
    · refine ⟨m ||| 2 ^ N, fun i => ?_⟩
      rw [dp_orI, h i, dp_pwI]
      constructor
      · rintro (⟨a, b⟩ | a)
        · exact ⟨by omega, b⟩
        · rw [a]; exact ⟨by omega, hN⟩
      · rintro ⟨a, b⟩
        by_cases e : i = N
        · exact Or.inr e
        · exact Or.inl ⟨by omega, b⟩
    · refine ⟨m, fun i => ?_⟩
      rw [h i]
      constructor
      · rintro ⟨a, b⟩
        exact ⟨by omega, b⟩
      · rintro ⟨a, b⟩
        refine ⟨?_, b⟩
        rcases Nat.lt_or_ge i N with z | z
        · exact z
        · have e : i = N := by omega
          rw [e] at b
          exact absurd b hN
theorem dp_lt256 {m : Nat} (h : ∀ i, m.testBit i = true → i < 8) : m < 256 := by
  have k : m < 2 ^ 8 := Nat.lt_pow_two_of_testBit m (fun i hi => by
    rw [dp_bf]
    intro e
    have := h i e
    omega)
  omega
theorem dp_b8 {m i : Nat} (h : m < 256) (hi : m.testBit i = true) : i < 8 := by
  rcases Nat.lt_or_ge i 8 with z | z
  · exact z
  · have a := Nat.ge_two_pow_of_testBit hi
    have b : 2 ^ 8 ≤ 2 ^ i := Nat.pow_le_pow_right (by omega) z
    omega
theorem dp_sb256 {a b : Nat} (h : dp_sb a b) (hb : b < 256) : a < 256 := by
  have := dp_sb_le h
  omega
def dp_cd (m : Nat) : Nat := dp_sm (fun v => (m.testBit v).toNat) 8
theorem dp_cd8 (m : Nat) : dp_cd m ≤ 8 := by
  have h : dp_cd m ≤ dp_sm (fun _ => 1) 8 := dp_smL (fun i _ => dp_tn_le _)
  rw [dp_smK] at h
  exact h
theorem dp_tnM {a b : Bool} (h : a = true → b = true) : a.toNat ≤ b.toNat := by
  cases a
  · exact Nat.zero_le _
  · rw [h rfl]; exact Nat.le_refl _
theorem dp_cdM {a b : Nat} (h : dp_sb a b) : dp_cd a ≤ dp_cd b := dp_smL (fun i _ => dp_tnM (h i))
theorem dp_cdL {a b x : Nat} (h : dp_sb a b) (hx : x < 8) (hb : b.testBit x = true) (ha : a.testBit x = false) : dp_cd a + 1 ≤ dp_cd b := by
  have e : dp_cd a + 1 = dp_sm (fun i => (a.testBit i).toNat + (if i = x then 1 else 0)) 8 := by
    rw [dp_smA, dp_smI hx]; rfl
  rw [e]
  apply dp_smL
  intro i _
  by_cases hi : i = x
  · rw [if_pos hi, hi, ha, hb]; decide
  · rw [if_neg hi]
    exact dp_tnM (h i)
theorem dp_cdA {a b : Nat} (h : ∀ i, a.testBit i = true → b.testBit i = false) : dp_cd (a ||| b) = dp_cd a + dp_cd b := by
  unfold dp_cd
  rw [← dp_smA]
  apply dp_smC
  intro i _
  rw [Nat.testBit_or]
  have k := h i
  revert k
  cases a.testBit i <;> cases b.testBit i <;> simp
theorem dp_cd0 : dp_cd 0 = 0 := by decide
theorem dp_cdP : ∀ v, v < 8 → dp_cd (2 ^ v) = 1 := by decide +kernel
theorem dp_cdpos {m : Nat} (h : 0 < dp_cd m) : ∃ x, x < 8 ∧ m.testBit x = true := by
  obtain ⟨i, hi, hp⟩ := dp_smP h
  refine ⟨i, hi, ?_⟩
  revert hp
  cases m.testBit i <;> simp
end
section
/-! graphs: reach, leads, packings, cuts -/
def dp_ok (n : Nat) (g : Nat → Nat) : Prop :=
  3 ≤ n ∧ n ≤ 8 ∧ (∀ u v, (g u).testBit v = (g v).testBit u) ∧ (∀ u, (g u).testBit u = false) ∧ (∀ u v, (g u).testBit v = true → u < n ∧ v < n)
theorem dp_ok8 {n : Nat} {g : Nat → Nat} (h : dp_ok n g) (u : Nat) : g u < 256 :=
  dp_lt256 (fun i hi => Nat.lt_of_lt_of_le (h.2.2.2.2 u i hi).2 h.2.1)
/-- the least set of vertices that is reached from s through the vertices of m -/
def dp_Rc (g : Nat → Nat) (s m v : Nat) : Prop :=
  ∀ S : Nat → Prop, (∀ w, (g s).testBit w = true → m.testBit w = true → S w) → (∀ u w, S u → (g u).testBit w = true → m.testBit w = true → S w) → S v
theorem dp_Rc0 {g : Nat → Nat} {s m w : Nat} (h : (g s).testBit w = true) (k : m.testBit w = true) : dp_Rc g s m w := fun _ a _ => a w h k
theorem dp_RcS {g : Nat → Nat} {s m u w : Nat} (r : dp_Rc g s m u) (h : (g u).testBit w = true) (k : m.testBit w = true) : dp_Rc g s m w :=
  fun S a b => b u w (r S a b) h k
theorem dp_RcM {g : Nat → Nat} {s m v : Nat} (r : dp_Rc g s m v) : m.testBit v = true :=
  r (fun v => m.testBit v = true) (fun _ _ k => k) (fun _ _ _ _ k => k)
theorem dp_Rc_mono {g g' : Nat → Nat} {s m m' v : Nat} (hg : ∀ u, dp_sb (g u) (g' u)) (hm : dp_sb m m') (r : dp_Rc g s m v) : dp_Rc g' s m' v :=
  r (fun v => dp_Rc g' s m' v) (fun w a b => dp_Rc0 (hg s w a) (hm w b)) (fun u w c a b => dp_RcS c (hg u w a) (hm w b))
def dp_Ld (g : Nat → Nat) (s t m : Nat) : Prop := ∃ v, dp_Rc g s m v ∧ (g t).testBit v = true
theorem dp_Ld_mono {g g' : Nat → Nat} {s t m m' : Nat} (hg : ∀ u, dp_sb (g u) (g' u)) (hm : dp_sb m m') (h : dp_Ld g s t m) : dp_Ld g' s t m' := by
  obtain ⟨v, r, k⟩ := h
  exact ⟨v, dp_Rc_mono hg hm r, hg t v k⟩
theorem dp_Ld_m {g : Nat → Nat} {s t m m' : Nat} (hm : dp_sb m m') (h : dp_Ld g s t m) : dp_Ld g s t m' := dp_Ld_mono (fun u => dp_sb_rf (g u)) hm h
theorem dp_Ld_ne {g : Nat → Nat} {s t m : Nat} (h : dp_Ld g s t m) : m ≠ 0 := by
  obtain ⟨v, r, _⟩ := h
  intro e
  have k := dp_RcM r
  rw [e, Nat.zero_testBit] at k
  exact absurd k (by decide)
/-- m holds j sets without a common vertex, each of which leads from s to t -/
def dp_Pk (g : Nat → Nat) (s t : Nat) : Nat → Nat → Prop
  | 0, _ => True
  | j + 1, m => ∃ p, dp_sb p m ∧ dp_Ld g s t p ∧ dp_Pk g s t j (dp_dn m p)
theorem dp_dn_mono {a b p : Nat} (h : dp_sb a b) : dp_sb (dp_dn a p) (dp_dn b p) := fun i z => by
  rw [dp_dnI] at z ⊢
  exact ⟨h i z.1, z.2⟩
theorem dp_dn_anti {a b p : Nat} (h : dp_sb a b) : dp_sb (dp_dn p b) (dp_dn p a) := fun i z => by
  rw [dp_dnI] at z ⊢
  refine ⟨z.1, ?_⟩
  rw [dp_bf]
  intro e
  exact dp_bf.mp z.2 (h i e)
theorem dp_Pk_mono {g g' : Nat → Nat} {s t : Nat} (hg : ∀ u, dp_sb (g u) (g' u)) : ∀ {j m m' : Nat}, dp_sb m m' → dp_Pk g s t j m → dp_Pk g' s t j m'
  | 0, _, _, _, _ => trivial
  | j + 1, m, m', hm, h => by
    obtain ⟨p, a, b, c⟩ := h
    exact ⟨p, dp_sb_tr a hm, dp_Ld_mono hg (dp_sb_rf p) b, dp_Pk_mono hg (dp_dn_mono hm) c⟩
theorem dp_Pk_m {g : Nat → Nat} {s t j m m' : Nat} (hm : dp_sb m m') (h : dp_Pk g s t j m) : dp_Pk g s t j m' := dp_Pk_mono (fun u => dp_sb_rf (g u)) hm h
theorem dp_Pk_s {g : Nat → Nat} {s t : Nat} : ∀ {j m : Nat}, dp_Pk g s t (j + 1) m → dp_Pk g s t j m
  | 0, _, _ => trivial
  | j + 1, m, h => by
    obtain ⟨p, a, b, c⟩ := h
    exact ⟨p, a, b, dp_Pk_s c⟩
theorem dp_Pk_le {g : Nat → Nat} {s t m : Nat} {j : Nat} : ∀ {d : Nat}, dp_Pk g s t (j + d) m → dp_Pk g s t j m
  | 0, h => h
  | d + 1, h => dp_Pk_le (d := d) (dp_Pk_s h)
/-- a packing is not greater than a cut -/
theorem dp_Pk_cut {g : Nat → Nat} {s t C : Nat} : ∀ {j m : Nat}, m < 256 → dp_Pk g s t j m → ¬ dp_Ld g s t (dp_dn m C) → j ≤ dp_cd (m &&& C)
  | 0, _, _, _, _ => Nat.zero_le _
  | j + 1, m, hm, h, hC => by
    obtain ⟨p, a, b, c⟩ := h
    have h1 : dp_sb (dp_dn (dp_dn m p) C) (dp_dn m C) := dp_dn_mono (dp_dn_sb m p)
    have ih := dp_Pk_cut (C := C) (dp_sb256 (dp_dn_sb m p) hm) c (fun z => hC (dp_Ld_m h1 z))
    have hx : ∃ x, p.testBit x = true ∧ C.testBit x = true := by
      apply Classical.byContradiction
      intro hn
      apply hC
      refine dp_Ld_m ?_ b
      intro i hi
      rw [dp_dnI]
      refine ⟨a i hi, ?_⟩
      rw [dp_bf]
      intro e
      exact hn ⟨i, hi, e⟩
    obtain ⟨x, xp, xC⟩ := hx
    have h2 : dp_cd (dp_dn m p &&& C) + 1 ≤ dp_cd (m &&& C) := by
      refine dp_cdL (x := x) ?_ (dp_b8 hm (a x xp)) ?_ ?_
      · intro i hi
        rw [dp_anI] at hi ⊢
        exact ⟨(dp_dnI.mp hi.1).1, hi.2⟩
      · rw [dp_anI]
        exact ⟨a x xp, xC⟩
      · rw [dp_bf, dp_anI, dp_dnI]
        intro z
        exact dp_bf.mp z.1.2 xp
    omega
theorem dp_Pk8 {g : Nat → Nat} {s t j m : Nat} (hm : m < 256) (h : dp_Pk g s t j m) : j ≤ 8 := by
  have a := dp_Pk_cut (C := m) hm h (fun z => dp_Ld_ne z (by
    apply dp_ext
    intro i
    rw [dp_dnI, Nat.zero_testBit]
    exact ⟨fun y => absurd y.1 (dp_bf.mp y.2), fun y => absurd y (by decide)⟩))
  have b := dp_cd8 (m &&& m)
  omega
theorem dp_mxE {g : Nat → Nat} {s t m : Nat} (hm : m < 256) : ∃ k, dp_Pk g s t k m ∧ ∀ j, dp_Pk g s t j m → j ≤ k := by
  have key : ∀ d k : Nat, k + d = 9 → (∀ j, dp_Pk g s t j m → j < k) → ∃ k, dp_Pk g s t k m ∧ ∀ j, dp_Pk g s t j m → j ≤ k := by
    intro d
    have key2 : ∀ k : Nat, (∀ j, dp_Pk g s t j m → j < k) → ∃ k, dp_Pk g s t k m ∧ ∀ j, dp_Pk g s t j m → j ≤ k := by
      intro k
      induction k with
      | zero => intro h; exact absurd (h 0 trivial) (by omega)
      | succ k ih =>
        intro h
        by_cases z : dp_Pk g s t k m
        · exact ⟨k, z, fun j hj => by have := h j hj; omega⟩
        · apply ih
          intro j hj
          have h1 := h j hj
          rcases Nat.lt_or_ge j k with y | y
          · exact y
          · have e : j = k := by omega
            rw [e] at hj
            exact absurd hj z
    intro k _ h
    exact key2 k h
  exact key 0 9 rfl (fun j hj => by have := dp_Pk8 hm hj; omega)
noncomputable def dp_mx (g : Nat → Nat) (s t m : Nat) : Nat := @dite Nat (m < 256) (Nat.decLt _ _) (fun h => Classical.choose (dp_mxE (g := g) (s := s) (t := t) h)) (fun _ => 0)
theorem dp_mx1 {g : Nat → Nat} {s t m : Nat} (hm : m < 256) : dp_Pk g s t (dp_mx g s t m) m := by
  unfold dp_mx
  rw [dif_pos hm]
  exact (Classical.choose_spec (dp_mxE (g := g) (s := s) (t := t) hm)).1
theorem dp_mx2 {g : Nat → Nat} {s t m j : Nat} (hm : m < 256) (h : dp_Pk g s t j m) : j ≤ dp_mx g s t m := by
  unfold dp_mx
  rw [dif_pos hm]
  exact (Classical.choose_spec (dp_mxE (g := g) (s := s) (t := t) hm)).2 j h
theorem dp_mx8 {g : Nat → Nat} {s t m : Nat} (hm : m < 256) : dp_mx g s t m ≤ 8 := dp_Pk8 hm (dp_mx1 hm)
theorem dp_mxU {g : Nat → Nat} {s t m k : Nat} (hm : m < 256) (h : dp_Pk g s t k m) (h2 : ∀ j, dp_Pk g s t j m → j ≤ k) : dp_mx g s t m = k :=
  Nat.le_antisymm (h2 _ (dp_mx1 hm)) (dp_mx2 hm h)
/-- all vertices but s and t -/
def dp_in (n s t : Nat) : Nat := dp_dn (dp_dn (2 ^ n - 1) (2 ^ s)) (2 ^ t)
theorem dp_inI {n s t i : Nat} : (dp_in n s t).testBit i = true ↔ i < n ∧ i ≠ s ∧ i ≠ t := by
  unfold dp_in
  rw [dp_dnI, dp_dnI, dp_bf, dp_bf, dp_pwI, dp_pwI, Nat.testBit_two_pow_sub_one, decide_eq_true_iff]
  exact ⟨fun z => ⟨z.1.1, z.1.2, z.2⟩, fun z => ⟨⟨z.1, z.2.1⟩, z.2.2⟩⟩
theorem dp_in8 {n s t : Nat} (hn : n ≤ 8) : dp_in n s t < 256 := dp_lt256 (fun i hi => by have := (dp_inI.mp hi).1; omega)
theorem dp_in_cd {n s t : Nat} (hs : s < 8) (ht : t < 8) (hst : s ≠ t) : dp_cd (dp_in n s t) ≤ 6 := by
  have h1 : dp_cd (dp_in n s t) + 1 ≤ dp_cd (dp_in n s t ||| 2 ^ s) :=
    dp_cdL (x := s) (fun i z => dp_orI.mpr (Or.inl z)) hs (dp_orI.mpr (Or.inr (dp_pwI.mpr rfl))) (by
      rw [dp_bf, dp_inI]; intro z; exact z.2.1 rfl)
  have h2 : dp_cd (dp_in n s t ||| 2 ^ s) + 1 ≤ dp_cd ((dp_in n s t ||| 2 ^ s) ||| 2 ^ t) :=
    dp_cdL (x := t) (fun i z => dp_orI.mpr (Or.inl z)) ht (dp_orI.mpr (Or.inr (dp_pwI.mpr rfl))) (by
      rw [dp_bf, dp_orI, dp_inI, dp_pwI]
      rintro (z | z)
      · exact z.2.2 rfl
      · exact hst z.symm)
  have h3 := dp_cd8 ((dp_in n s t ||| 2 ^ s) ||| 2 ^ t)
  omega
/-- pigeons: nine numbers below eight are not all different -/
theorem dp_pig {h : Nat → Nat} (M N : Nat) (hMN : N < M) (hb : ∀ i, i < M → h i < N) : ∃ i j, i < j ∧ j < M ∧ h i = h j := by
  apply Classical.byContradiction
  intro hn
  have a : dp_sm (fun i => dp_sm (fun x => if x = h i then 1 else 0) N) M = M := by
    have e : dp_sm (fun i => dp_sm (fun x => if x = h i then 1 else 0) N) M = dp_sm (fun _ => 1) M := dp_smC (fun i hi => dp_smI (hb i hi))
    rw [e, dp_smK, Nat.mul_one]
  rw [dp_smW] at a
  have b : dp_sm (fun x => dp_sm (fun i => if x = h i then 1 else 0) M) N ≤ dp_sm (fun _ => 1) N := by
    apply dp_smL
    intro x _
    rcases Nat.lt_or_ge 1 (dp_sm (fun i => if x = h i then 1 else 0) M) with z | z
    · exfalso
      obtain ⟨i, hi, hp⟩ := dp_smP (f := fun i => if x = h i then 1 else 0) (N := M) (by omega)
      have hx : x = h i := by
        apply Classical.byContradiction
        intro q
        simp only [if_neg q] at hp
        omega
      have e : dp_sm (fun j => if x = h j then 1 else 0) M = dp_sm (fun j => if j = i then 1 else 0) M := by
        apply dp_smC
        intro j hj
        by_cases q : j = i
        · rw [if_pos q, q, if_pos hx]
        · rw [if_neg q]
          apply if_neg
          intro y
          rcases Nat.lt_or_gt_of_ne q with r | r
          · exact hn ⟨j, i, r, hi, by rw [← y, hx]⟩
          · exact hn ⟨i, j, r, hj, by rw [← y, hx]⟩
      rw [e, dp_smI hi] at z
      omega
    · exact z
  rw [a, dp_smK, Nat.mul_one] at b
  omega
end
section
/-! the flow mathematics -/
def dp_it (σ : Nat → Nat) (a : Nat) : Nat → Nat
  | 0 => a
  | i + 1 => σ (dp_it σ a i)
theorem dp_link {g : Nat → Nat} {s t : Nat} {σ : Nat → Nat} : ∀ (j U A : Nat), U < 256 → dp_sb A U → j ≤ dp_cd A →
    (∀ v, U.testBit v = true → (σ v = t ∧ (g t).testBit v = true) ∨ (U.testBit (σ v) = true ∧ (g v).testBit (σ v) = true)) →
    U.testBit t = false → (∀ v w, U.testBit v = true → U.testBit w = true → σ v = σ w → σ v ≠ t → v = w) →
    (∀ a, A.testBit a = true → (g s).testBit a = true) → (∀ v, U.testBit v = true → A.testBit (σ v) = false) → dp_Pk g s t j U := by
  intro j
  induction j with
  | zero => intros; trivial
  | succ j ih =>
    intro U A hU hAU hj hσ ht hinj hs hA
    obtain ⟨a, ha8, ha⟩ := dp_cdpos (m := A) (by omega)
    have nt : ∀ v, U.testBit v = true → v ≠ t := fun v hv e => by
      rw [e] at hv
      exact dp_bf.mp ht hv
    have down : ∀ i d : Nat, (∀ q, q ≤ i + d + 1 → U.testBit (dp_it σ a q) = true) → dp_it σ a i = dp_it σ a (i + d + 1) → False := by
      intro i
      induction i with
      | zero =>
        intro d hq e
        have e' : a = σ (dp_it σ a (0 + d)) := e
        have z := hA _ (hq (0 + d) (by omega))
        rw [← e'] at z
        exact dp_bf.mp z ha
      | succ i ihd =>
        intro d hq e
        have ea : dp_it σ a (i + 1 + d + 1) = σ (dp_it σ a (i + d + 1)) := by
          have : i + 1 + d + 1 = (i + d + 1) + 1 := by omega
          rw [this]; rfl
        have e' : σ (dp_it σ a i) = σ (dp_it σ a (i + d + 1)) := by rw [← ea]; exact e
        have z := hinj _ _ (hq i (by omega)) (hq (i + d + 1) (by omega)) e' (nt _ (hq (i + 1) (by omega)))
        exact ihd d (fun q h => hq q (by omega)) z
    have hend : ∃ i, (∀ q, q ≤ i → U.testBit (dp_it σ a q) = true) ∧ σ (dp_it σ a i) = t := by
      apply Classical.byContradiction
      intro hn
      have all : ∀ i, ∀ q, q ≤ i → U.testBit (dp_it σ a q) = true := by
        intro i
        induction i with
        | zero =>
          intro q hq
          have : q = 0 := by omega
          rw [this]
          exact hAU a ha
        | succ i ihi =>
          intro q hq
          rcases Nat.lt_or_ge q (i + 1) with z | z
          · exact ihi q (by omega)
          · have e : q = i + 1 := by omega
            rw [e]
            rcases hσ _ (ihi i (Nat.le_refl _)) with y | y
            · exact absurd ⟨i, ihi, y.1⟩ hn
            · exact y.1
      obtain ⟨i, l, hil, hl, e⟩ := dp_pig (h := dp_it σ a) 9 8 (by omega) (fun i _ => dp_b8 hU (all i i (Nat.le_refl _)))
      have el : l = i + (l - i - 1) + 1 := by omega
      rw [el] at e
      exact down i _ (fun q _ => all q q (Nat.le_refl _)) e
    obtain ⟨i, hp, hit⟩ := hend
    obtain ⟨P, hP⟩ := dp_mk (fun v => ∃ q, q ≤ i ∧ dp_it σ a q = v) 8
    have hPU : dp_sb P U := by
      intro v hv
      obtain ⟨_, q, hq, e⟩ := (hP v).mp hv
      rw [← e]
      exact hp q hq
    have inP : ∀ q, q ≤ i → P.testBit (dp_it σ a q) = true := fun q hq => (hP _).mpr ⟨dp_b8 hU (hp q hq), q, hq, rfl⟩
    have reach : ∀ q, q ≤ i → dp_Rc g s P (dp_it σ a q) := by
      intro q
      induction q with
      | zero => intro _; exact dp_Rc0 (hs a ha) (inP 0 (Nat.zero_le _))
      | succ q ihq =>
        intro hq
        refine dp_RcS (ihq (by omega)) ?_ (inP (q + 1) hq)
        rcases hσ _ (hp q (by omega)) with y | y
        · exact absurd y.1 (nt _ (hp (q + 1) hq))
        · exact y.2
    have lead : dp_Ld g s t P := by
      refine ⟨_, reach i (Nat.le_refl _), ?_⟩
      rcases hσ _ (hp i (Nat.le_refl _)) with y | y
      · exact y.2
      · exact absurd hit (nt _ y.1)
    refine ⟨P, hPU, lead, ih (dp_dn U P) (dp_dn A (2 ^ a)) (dp_sb256 (dp_dn_sb U P) hU) ?_ ?_ ?_ ?_ ?_ ?_ ?_⟩
    · intro x hx
      rw [dp_dnI, dp_bf, dp_pwI] at hx
      rw [dp_dnI, dp_bf]
      refine ⟨hAU x hx.1, fun hxP => ?_⟩
      obtain ⟨_, q, hq, e⟩ := (hP x).mp hxP
      cases q with
      | zero => exact hx.2 e.symm
      | succ q =>
        have z := hA _ (hp q (by omega))
        have e' : σ (dp_it σ a q) = x := e
        rw [e'] at z
        exact dp_bf.mp z hx.1
    · have e : A = dp_dn A (2 ^ a) ||| 2 ^ a := by
        apply dp_ext
        intro x
        rw [dp_orI, dp_dnI, dp_bf, dp_pwI]
        constructor
        · intro h
          by_cases q : x = a
          · exact Or.inr q
          · exact Or.inl ⟨h, q⟩
        · rintro (h | h)
          · exact h.1
          · rw [h]; exact ha
      have c := dp_cdA (a := dp_dn A (2 ^ a)) (b := 2 ^ a) (fun x h => (dp_dnI.mp h).2)
      rw [← e, dp_cdP a ha8] at c
      omega
    · intro v hv
      have hv' := dp_dnI.mp hv
      rcases hσ v hv'.1 with y | y
      · exact Or.inl y
      · refine Or.inr ⟨?_, y.2⟩
        rw [dp_dnI, dp_bf]
        refine ⟨y.1, fun hq => ?_⟩
        obtain ⟨_, q, hq, e⟩ := (hP _).mp hq
        cases q with
        | zero =>
          have z := hA v hv'.1
          have e' : a = σ v := e
          rw [← e'] at z
          exact dp_bf.mp z ha
        | succ q =>
          have e' : σ (dp_it σ a q) = σ v := e
          have z := hinj v _ hv'.1 (hp q (by omega)) e'.symm (nt _ y.1)
          rw [z] at hv'
          exact dp_bf.mp hv'.2 (inP q (by omega))
    · rw [dp_bf, dp_dnI]
      intro z
      exact dp_bf.mp ht z.1
    · intro v w hv hw
      exact hinj v w (dp_dnI.mp hv).1 (dp_dnI.mp hw).1
    · intro x hx
      exact hs x (dp_dnI.mp hx).1
    · intro v hv
      rw [dp_bf, dp_dnI]
      intro z
      exact dp_bf.mp (hA v (dp_dnI.mp hv).1) z.1
/-! capacities of the split graph -/
def dp_cp (n s t : Nat) (g : Nat → Nat) (sh fi a b : Nat) : Nat :=
  if a % 2 = 0 then
    (if b = a + 1 ∧ a / 2 < n ∧ sh.testBit (a / 2) = false then (if a / 2 = s ∨ a / 2 = t ∨ fi.testBit (a / 2) = true then 9 else 1) else 0)
  else
    (if b % 2 = 0 ∧ a / 2 < n ∧ b / 2 < n ∧ sh.testBit (a / 2) = false ∧ sh.testBit (b / 2) = false ∧ (g (a / 2)).testBit (b / 2) = true then
      (if a / 2 = s ∧ b / 2 = t then 1 else 9) else 0)
section
variable {n s t sh fi : Nat} {g : Nat → Nat}
theorem dp_cp_eo (v : Nat) : dp_cp n s t g sh fi (2 * v) (2 * v + 1) = if v < n ∧ sh.testBit v = false then (if v = s ∨ v = t ∨ fi.testBit v = true then 9 else 1) else 0 := by
  have e1 : 2 * v % 2 = 0 := by omega
  have e2 : 2 * v / 2 = v := by omega
  unfold dp_cp
  rw [if_pos e1, e2]
  by_cases h : v < n ∧ sh.testBit v = false
  · rw [if_pos h, if_pos ⟨rfl, h⟩]
  · rw [if_neg h, if_neg (fun z => h z.2)]
theorem dp_cp_oe (u v : Nat) : dp_cp n s t g sh fi (2 * u + 1) (2 * v) = if u < n ∧ v < n ∧ sh.testBit u = false ∧ sh.testBit v = false ∧ (g u).testBit v = true then (if u = s ∧ v = t then 1 else 9) else 0 := by
  have e1 : ¬ (2 * u + 1) % 2 = 0 := by omega
  have e2 : (2 * u + 1) / 2 = u := by omega
  have e3 : 2 * v / 2 = v := by omega
  have e4 : 2 * v % 2 = 0 := by omega
  unfold dp_cp
  rw [if_neg e1, e2, e3]
  by_cases h : u < n ∧ v < n ∧ sh.testBit u = false ∧ sh.testBit v = false ∧ (g u).testBit v = true
  · rw [if_pos h, if_pos ⟨e4, h⟩]
  · rw [if_neg h, if_neg (fun z => h z.2)]
theorem dp_cp_e {v b : Nat} (h : b ≠ 2 * v + 1) : dp_cp n s t g sh fi (2 * v) b = 0 := by
  have e1 : 2 * v % 2 = 0 := by omega
  unfold dp_cp
  rw [if_pos e1, if_neg (fun z => h z.1)]
theorem dp_cp_o {u b : Nat} (h : ¬ b % 2 = 0) : dp_cp n s t g sh fi (2 * u + 1) b = 0 := by
  have e1 : ¬ (2 * u + 1) % 2 = 0 := by omega
  unfold dp_cp
  rw [if_neg e1, if_neg (fun z => h z.1)]
end
def dp_ct (S : Nat → Bool) (f : Nat → Nat → Nat) : Nat := dp_sm (fun a => dp_sm (fun b => if S a = true ∧ S b = false then f a b else 0) 16) 16
def dp_ci (S : Nat → Bool) (f : Nat → Nat → Nat) : Nat := dp_sm (fun a => dp_sm (fun b => if S a = true ∧ S b = true then f a b else 0) 16) 16
theorem dp_ctE (S : Nat → Bool) (f : Nat → Nat → Nat) : dp_sm (fun a => if S a = true then dp_sm (f a) 16 else 0) 16 = dp_ci S f + dp_ct S f := by
  unfold dp_ci dp_ct
  rw [← dp_smA]
  apply dp_smC
  intro a _
  by_cases h : S a = true
  · simp only [h, true_and, if_true]
    rw [← dp_smA]
    apply dp_smC
    intro b _
    cases S b <;> simp
  · rw [if_neg h, dp_sm0 (fun b _ => if_neg (fun z => h z.1)), dp_sm0 (fun b _ => if_neg (fun z => h z.1))]
theorem dp_ciE (S : Nat → Bool) (f : Nat → Nat → Nat) : dp_ci S f + dp_ci S f = dp_sm (fun a => dp_sm (fun b => if S a = true ∧ S b = true then f a b + f b a else 0) 16) 16 := by
  have e : dp_ci S f = dp_sm (fun a => dp_sm (fun b => if S b = true ∧ S a = true then f b a else 0) 16) 16 := by
    unfold dp_ci
    rw [dp_smW]
  have e2 : dp_ci S f + dp_ci S f = dp_ci S f + dp_sm (fun a => dp_sm (fun b => if S b = true ∧ S a = true then f b a else 0) 16) 16 := by rw [← e]
  rw [e2]
  unfold dp_ci
  rw [← dp_smA]
  apply dp_smC
  intro a _
  rw [← dp_smA]
  apply dp_smC
  intro b _
  cases S a <;> cases S b <;> simp
/-- what crosses a cut: the flow's value and the room that is left -/
theorem dp_idn {c R : Nat → Nat → Nat} {p q k : Nat} (h1 : ∀ a b, a < 16 → b < 16 → R a b + R b a = c a b + c b a)
    (h2 : ∀ a, a < 16 → dp_sm (R a) 16 + (if a = p then k else 0) = dp_sm (c a) 16 + (if a = q then k else 0))
    (S : Nat → Bool) (hp : S p = true) (hq : S q = false) (hp16 : p < 16) : k + dp_ct S R = dp_ct S c := by
  have e1 := dp_ctE S R
  have e2 := dp_ctE S c
  have e3 : dp_ci S R + dp_ci S R = dp_ci S c + dp_ci S c := by
    rw [dp_ciE, dp_ciE]
    apply dp_smC
    intro a ha
    apply dp_smC
    intro b hb
    rw [h1 a b ha hb]
  have e4 : dp_sm (fun a => (if S a = true then dp_sm (R a) 16 else 0) + (if a = p then k else 0)) 16 = dp_sm (fun a => if S a = true then dp_sm (c a) 16 else 0) 16 := by
    apply dp_smC
    intro a ha
    have z := h2 a ha
    by_cases y : S a = true
    · rw [if_pos y, if_pos y]
      have w : ¬ a = q := fun e => by rw [e, hq] at y; exact absurd y (by decide)
      rw [if_neg w] at z
      omega
    · rw [if_neg y, if_neg y]
      have w : ¬ a = p := fun e => by rw [e] at y; exact y hp
      rw [if_neg w]
  rw [dp_smA, dp_smI hp16] at e4
  omega
theorem dp_sm1 {f : Nat → Nat} {i N : Nat} (hi : i < N) (h : ∀ j, j ≠ i → f j = 0) : dp_sm f N = f i := by
  have a := dp_smU (f := f) (h := fun _ => 0) h hi
  have b : dp_sm (fun _ => 0) N = 0 := dp_sm0 (fun _ _ => rfl)
  omega
/-! from here on: a graph, its ends, what is shut, what is firm; a flow of value k and the room R that it leaves -/
def dp_FI (n s t : Nat) (g : Nat → Nat) (sh fi : Nat) (R : Nat → Nat → Nat) (k : Nat) : Prop :=
  (∀ a b, a < 16 → b < 16 → R a b + R b a = dp_cp n s t g sh fi a b + dp_cp n s t g sh fi b a) ∧
  (∀ a, a < 16 → dp_sm (R a) 16 + (if a = 2 * s + 1 then k else 0) = dp_sm (dp_cp n s t g sh fi a) 16 + (if a = 2 * t then k else 0)) ∧
  (∀ a, a < 16 → dp_cp n s t g sh fi a (2 * s + 1) ≤ R a (2 * s + 1))
def dp_dr (g : Nat → Nat) (s t : Nat) : Nat := ((g s).testBit t).toNat
def dp_ctx (n s t : Nat) (g : Nat → Nat) (sh : Nat) : Prop := dp_ok n g ∧ s < n ∧ t < n ∧ s ≠ t ∧ sh.testBit s = false ∧ sh.testBit t = false
theorem dp_cp_st {n s t sh fi : Nat} {g : Nat → Nat} (h : dp_ctx n s t g sh) : dp_cp n s t g sh fi (2 * s + 1) (2 * t) = dp_dr g s t := by
  obtain ⟨_, hs, ht, _, h1, h2⟩ := h
  rw [dp_cp_oe]
  unfold dp_dr
  cases e : (g s).testBit t
  · rw [if_neg (fun z => absurd z.2.2.2.2 (by decide))]; rfl
  · rw [if_pos ⟨hs, ht, h1, h2, rfl⟩, if_pos ⟨rfl, rfl⟩]; rfl
end
section
/-! a closed set gives a cut; no cut is less than the flow; the flow gives a packing -/
def dp_NC (n s t : Nat) (g : Nat → Nat) (sh fi C : Nat) : Prop :=
  dp_sb C (dp_dn (dp_dn (dp_in n s t) sh) fi) ∧ ¬ dp_Ld g s t (dp_dn (dp_dn (dp_in n s t) sh) C)
section
variable {n s t sh fi k : Nat} {g : Nat → Nat} {R : Nat → Nat → Nat}
theorem dp_ct_row (S : Nat → Bool) (f : Nat → Nat → Nat) {a b : Nat} (ha : a < 16) (hb : b < 16) (h1 : S a = true) (h2 : S b = false) : f a b ≤ dp_ct S f := by
  have x : (fun b => if S a = true ∧ S b = false then f a b else 0) b ≤ dp_sm (fun b => if S a = true ∧ S b = false then f a b else 0) 16 := dp_smT (f := fun b => if S a = true ∧ S b = false then f a b else 0) hb
  have y : (fun a => dp_sm (fun b => if S a = true ∧ S b = false then f a b else 0) 16) a ≤ dp_ct S f := dp_smT (f := fun a => dp_sm (fun b => if S a = true ∧ S b = false then f a b else 0) 16) ha
  simp only [h1, h2, and_self, if_true] at x
  simp only [h1] at y
  simp only [true_and] at x y
  exact Nat.le_trans x y
theorem dp_cut1 (H : dp_ctx n s t g sh) (F : dp_FI n s t g sh fi R k) (hk : k < 9) (S : Nat → Bool) (h0 : S (2 * s + 1) = true) (h1 : S (2 * t) = false)
    (hc : ∀ a b, a < 16 → b < 16 → S a = true → 0 < R a b → S b = true) :
    ∃ C, dp_NC n s t g sh fi C ∧ dp_cd C + dp_dr g s t ≤ k := by
  have hst := dp_cp_st (fi := fi) H
  obtain ⟨⟨hn3, hn8, sym, irr, bnd⟩, hs, ht, hne, hs0, ht0⟩ := H
  have id := dp_idn F.1 F.2.1 S h0 h1 (by omega)
  have z0 : dp_ct S R = 0 := by
    apply dp_sm0
    intro a ha
    apply dp_sm0
    intro b hb
    by_cases h : S a = true ∧ S b = false
    · rw [if_pos h]
      rcases Nat.eq_zero_or_pos (R a b) with e | e
      · exact e
      · have := hc a b ha hb h.1 e
        rw [h.2] at this
        exact absurd this (by decide)
    · rw [if_neg h]
  have ck : dp_ct S (dp_cp n s t g sh fi) = k := by omega
  have small : ∀ a b, a < 16 → b < 16 → S a = true → 9 ≤ dp_cp n s t g sh fi a b → S b = true := by
    intro a b ha hb hS h9
    cases e : S b
    · have := dp_ct_row S (dp_cp n s t g sh fi) ha hb hS e
      omega
    · rfl
  obtain ⟨C, hC⟩ := dp_mk (fun v => v < n ∧ sh.testBit v = false ∧ S (2 * v) = true ∧ S (2 * v + 1) = false) 8
  have inner : ∀ v, C.testBit v = true → v < n ∧ sh.testBit v = false ∧ v ≠ s ∧ v ≠ t ∧ fi.testBit v = false := by
    intro v hv
    obtain ⟨v8, vn, vs, a, b⟩ := (hC v).mp hv
    have no : ¬ (v = s ∨ v = t ∨ fi.testBit v = true) := by
      intro y
      have := small (2 * v) (2 * v + 1) (by omega) (by omega) a (by rw [dp_cp_eo, if_pos ⟨vn, vs⟩, if_pos y]; exact Nat.le_refl _)
      rw [b] at this
      exact absurd this (by decide)
    refine ⟨vn, vs, fun e => no (Or.inl e), fun e => no (Or.inr (Or.inl e)), ?_⟩
    rw [dp_bf]
    exact fun e => no (Or.inr (Or.inr e))
  refine ⟨C, ⟨?_, ?_⟩, ?_⟩
  · intro v hv
    obtain ⟨a, b, c, d, e⟩ := inner v hv
    rw [dp_dnI, dp_dnI, dp_inI]
    exact ⟨⟨⟨a, c, d⟩, b⟩, e⟩
  · rintro ⟨v, r, hv⟩
    have step : ∀ u w, u < n → sh.testBit u = false → S (2 * u + 1) = true → (g u).testBit w = true → (dp_dn (dp_dn (dp_in n s t) sh) C).testBit w = true → S (2 * w + 1) = true := by
      intro u w un us uS e hw
      rw [dp_dnI, dp_dnI, dp_inI] at hw
      obtain ⟨⟨⟨wn, ws, wt⟩, wsh⟩, wC⟩ := hw
      have a : S (2 * w) = true := small (2 * u + 1) (2 * w) (by omega) (by omega) uS (by
        rw [dp_cp_oe, if_pos ⟨un, wn, us, wsh, e⟩, if_neg (fun y => wt y.2)]; exact Nat.le_refl _)
      cases b : S (2 * w + 1)
      · exact absurd ((hC w).mpr ⟨by omega, wn, wsh, a, b⟩) (dp_bf.mp wC)
      · rfl
    have fin : v < n ∧ v ≠ s ∧ sh.testBit v = false ∧ S (2 * v + 1) = true := by
      refine r (fun v => v < n ∧ v ≠ s ∧ sh.testBit v = false ∧ S (2 * v + 1) = true) ?_ ?_
      · intro w e hw
        have z := step s w hs hs0 h0 e hw
        rw [dp_dnI, dp_dnI, dp_inI] at hw
        exact ⟨hw.1.1.1, hw.1.1.2.1, hw.1.2, z⟩
      · intro u w hu e hw
        have z := step u w hu.1 hu.2.2.1 hu.2.2.2 e hw
        rw [dp_dnI, dp_dnI, dp_inI] at hw
        exact ⟨hw.1.1.1, hw.1.1.2.1, hw.1.2, z⟩
    have a := small (2 * v + 1) (2 * t) (by omega) (by omega) fin.2.2.2 (by
      rw [sym] at hv
      rw [dp_cp_oe, if_pos ⟨fin.1, ht, fin.2.2.1, ht0, hv⟩, if_neg (fun y => fin.2.1 y.1)]; exact Nat.le_refl _)
    rw [h1] at a
    exact absurd a (by decide)
  · rw [← ck]
    unfold dp_ct
    rw [dp_sm16, dp_smA]
    apply Nat.add_le_add
    · apply dp_smL
      intro v hv
      cases e : C.testBit v
      · exact Nat.zero_le _
      · obtain ⟨v8, vn, vs, a, b⟩ := (hC v).mp e
        have x : (fun b => if S (2 * v) = true ∧ S b = false then dp_cp n s t g sh fi (2 * v) b else 0) (2 * v + 1) ≤ dp_sm (fun b => if S (2 * v) = true ∧ S b = false then dp_cp n s t g sh fi (2 * v) b else 0) 16 := dp_smT (f := fun b => if S (2 * v) = true ∧ S b = false then dp_cp n s t g sh fi (2 * v) b else 0) (i := 2 * v + 1) (by omega)
        refine Nat.le_trans ?_ x
        show true.toNat ≤ if S (2 * v) = true ∧ S (2 * v + 1) = false then dp_cp n s t g sh fi (2 * v) (2 * v + 1) else 0
        rw [if_pos ⟨a, b⟩, dp_cp_eo, if_pos ⟨vn, vs⟩]
        by_cases y : v = s ∨ v = t ∨ fi.testBit v = true
        · rw [if_pos y]; decide
        · rw [if_neg y]; decide
    · have x : (fun b => if S (2 * s + 1) = true ∧ S b = false then dp_cp n s t g sh fi (2 * s + 1) b else 0) (2 * t) ≤ dp_sm (fun b => if S (2 * s + 1) = true ∧ S b = false then dp_cp n s t g sh fi (2 * s + 1) b else 0) 16 := dp_smT (f := fun b => if S (2 * s + 1) = true ∧ S b = false then dp_cp n s t g sh fi (2 * s + 1) b else 0) (i := 2 * t) (by omega)
      have y : (fun v => dp_sm (fun b => if S (2 * v + 1) = true ∧ S b = false then dp_cp n s t g sh fi (2 * v + 1) b else 0) 16) s ≤ dp_sm (fun v => dp_sm (fun b => if S (2 * v + 1) = true ∧ S b = false then dp_cp n s t g sh fi (2 * v + 1) b else 0) 16) 8 := dp_smT (f := fun v => dp_sm (fun b => if S (2 * v + 1) = true ∧ S b = false then dp_cp n s t g sh fi (2 * v + 1) b else 0) 16) (i := s) (by omega)
      refine Nat.le_trans (Nat.le_trans ?_ x) y
      show dp_dr g s t ≤ if S (2 * s + 1) = true ∧ S (2 * t) = false then dp_cp n s t g sh fi (2 * s + 1) (2 * t) else 0
      rw [if_pos ⟨h0, h1⟩, hst]
      exact Nat.le_refl _
theorem dp_cut2 (H : dp_ctx n s t g sh) (F : dp_FI n s t g sh fi R k) {C : Nat} (hC : dp_NC n s t g sh fi C) : k ≤ dp_cd C + dp_dr g s t := by
  have hst := dp_cp_st (fi := fi) H
  obtain ⟨⟨hn3, hn8, sym, irr, bnd⟩, hs, ht, hne, hs0, ht0⟩ := H
  obtain ⟨c1, c2⟩ := hC
  obtain ⟨W, hW⟩ := dp_mk (fun v => dp_Rc g s (dp_dn (dp_dn (dp_in n s t) sh) C) v) 8
  have Win : ∀ v, W.testBit v = true → v < n ∧ v ≠ s ∧ v ≠ t ∧ sh.testBit v = false := by
    intro v hv
    have z := dp_RcM ((hW v).mp hv).2
    rw [dp_dnI, dp_dnI, dp_inI] at z
    exact ⟨z.1.1.1, z.1.1.2.1, z.1.1.2.2, z.1.2⟩
  have Cin : ∀ v, C.testBit v = true → v < n ∧ v ≠ s ∧ v ≠ t ∧ sh.testBit v = false ∧ fi.testBit v = false := by
    intro v hv
    have z := c1 v hv
    rw [dp_dnI, dp_dnI, dp_inI] at z
    exact ⟨z.1.1.1, z.1.1.2.1, z.1.1.2.2, z.1.2, z.2⟩
  obtain ⟨E, hE⟩ : ∃ E : Nat → Bool, ∀ v, (E (2 * v) = true ↔ (v = s ∨ W.testBit v = true ∨ C.testBit v = true)) ∧ (E (2 * v + 1) = true ↔ (v = s ∨ W.testBit v = true)) := by
    refine ⟨fun a => if a % 2 = 0 then (decide (a / 2 = s) || (W.testBit (a / 2) || C.testBit (a / 2))) else (decide (a / 2 = s) || W.testBit (a / 2)), fun v => ⟨?_, ?_⟩⟩
    · have e1 : 2 * v % 2 = 0 := by omega
      have e2 : 2 * v / 2 = v := by omega
      simp only [e1, e2, if_true, Bool.or_eq_true, decide_eq_true_iff]
    · have e1 : ¬ (2 * v + 1) % 2 = 0 := by omega
      have e2 : (2 * v + 1) / 2 = v := by omega
      simp only [if_neg e1, e2, Bool.or_eq_true, decide_eq_true_iff]
  have h0 : E (2 * s + 1) = true := (hE s).2.mpr (Or.inl rfl)
  have h1 : E (2 * t) = false := by
    rw [dp_bf, (hE t).1]
    rintro (z | z | z)
    · exact hne z.symm
    · exact (Win t z).2.2.1 rfl
    · exact (Cin t z).2.2.1 rfl
  have id := dp_idn F.1 F.2.1 E h0 h1 (by omega)
  have hle : dp_ct E (dp_cp n s t g sh fi) ≤ dp_cd C + dp_dr g s t := by
    unfold dp_ct
    rw [dp_sm16, dp_smA]
    apply Nat.add_le_add
    · apply dp_smL
      intro v hv
      rw [dp_sm1 (i := 2 * v + 1) (by omega) (fun b hb => by
        by_cases y : E (2 * v) = true ∧ E b = false
        · rw [if_pos y, dp_cp_e hb]
        · rw [if_neg y])]
      by_cases y : E (2 * v) = true ∧ E (2 * v + 1) = false
      · rw [if_pos y]
        have y1 := (hE v).1.mp y.1
        have y2 := dp_bf.mp y.2
        rw [(hE v).2] at y2
        have vC : C.testBit v = true := by
          rcases y1 with z | z | z
          · exact absurd (Or.inl z) y2
          · exact absurd (Or.inr z) y2
          · exact z
        obtain ⟨a, b, c, d, e⟩ := Cin v vC
        rw [dp_cp_eo, if_pos ⟨a, d⟩, if_neg, vC]
        · exact Nat.le_refl _
        · rintro (z | z | z)
          · exact b z
          · exact c z
          · exact dp_bf.mp e z
      · rw [if_neg y]
        exact Nat.zero_le _
    · have nocross : ∀ u w, u < 8 → w < 8 → ¬ (u = s ∧ w = t) → (if E (2 * u + 1) = true ∧ E (2 * w) = false then dp_cp n s t g sh fi (2 * u + 1) (2 * w) else 0) = 0 := by
        intro u w u8 w8 hno
        by_cases y : E (2 * u + 1) = true ∧ E (2 * w) = false
        · rw [if_pos y, dp_cp_oe]
          apply if_neg
          rintro ⟨un, wn, us, wsh, e⟩
          have y1 := (hE u).2.mp y.1
          have y2 := dp_bf.mp y.2
          rw [(hE w).1] at y2
          have ws : w ≠ s := fun z => y2 (Or.inl z)
          have wW : ¬ W.testBit w = true := fun z => y2 (Or.inr (Or.inl z))
          have wC : ¬ C.testBit w = true := fun z => y2 (Or.inr (Or.inr z))
          by_cases wt : w = t
          · have uW : W.testBit u = true := by
              rcases y1 with z | z
              · exact absurd ⟨z, wt⟩ hno
              · exact z
            apply c2
            refine ⟨u, ((hW u).mp uW).2, ?_⟩
            rw [sym, ← wt]
            exact e
          · have wm : (dp_dn (dp_dn (dp_in n s t) sh) C).testBit w = true := by
              rw [dp_dnI, dp_dnI, dp_inI]
              exact ⟨⟨⟨wn, ws, wt⟩, wsh⟩, dp_bf.mpr wC⟩
            apply wW
            rw [hW w]
            refine ⟨w8, ?_⟩
            rcases y1 with z | z
            · rw [z] at e
              exact dp_Rc0 e wm
            · exact dp_RcS ((hW u).mp z).2 e wm
        · rw [if_neg y]
      have odd : ∀ u b, ¬ b % 2 = 0 → (if E (2 * u + 1) = true ∧ E b = false then dp_cp n s t g sh fi (2 * u + 1) b else 0) = 0 := by
        intro u b hb
        by_cases y : E (2 * u + 1) = true ∧ E b = false
        · rw [if_pos y, dp_cp_o hb]
        · rw [if_neg y]
      have rows : dp_sm (fun v => dp_sm (fun b => if E (2 * v + 1) = true ∧ E b = false then dp_cp n s t g sh fi (2 * v + 1) b else 0) 16) 8 = dp_sm (fun v => if v = s then dp_dr g s t else 0) 8 := by
        apply dp_smC
        intro v hv
        rw [dp_sm16]
        by_cases e : v = s
        · rw [if_pos e]
          have z : dp_sm (fun w => (if E (2 * v + 1) = true ∧ E (2 * w) = false then dp_cp n s t g sh fi (2 * v + 1) (2 * w) else 0) + (if E (2 * v + 1) = true ∧ E (2 * w + 1) = false then dp_cp n s t g sh fi (2 * v + 1) (2 * w + 1) else 0)) 8 = dp_sm (fun w => if w = t then dp_dr g s t else 0) 8 := by
            apply dp_smC
            intro w hw
            rw [odd v (2 * w + 1) (by omega), Nat.add_zero]
            by_cases q : w = t
            · rw [if_pos q, e, q, if_pos ⟨h0, h1⟩, hst]
            · rw [if_neg q]
              exact nocross v w hv hw (fun y => q y.2)
          rw [z, dp_smI (by omega)]
        · rw [if_neg e]
          apply dp_sm0
          intro w hw
          rw [odd v (2 * w + 1) (by omega), nocross v w hv hw (fun y => e y.1)]
      rw [rows, dp_smI (by omega)]
      exact Nat.le_refl _
  omega
end
end
section
/-! a flow of value k without firm vertices gives k disjoint ways -/
theorem dp_dec {n s t sh k : Nat} {g : Nat → Nat} {R : Nat → Nat → Nat} (H : dp_ctx n s t g sh) (F : dp_FI n s t g sh 0 R k) :
    ∃ j, k ≤ j + dp_dr g s t ∧ dp_Pk g s t j (dp_dn (dp_in n s t) sh) := by
  have hst := dp_cp_st (fi := 0) H
  obtain ⟨⟨hn3, hn8, sym, irr, bnd⟩, hs, ht, hne, hs0, ht0⟩ := H
  obtain ⟨f1, f2, f3⟩ := F
  obtain ⟨c, hc⟩ : ∃ c, c = dp_cp n s t g sh 0 := ⟨_, rfl⟩
  rw [← hc] at f1 f2 f3 hst
  obtain ⟨T, hT⟩ : ∃ T : Nat → Nat, ∀ v, T v = R (2 * v + 1) (2 * v) := ⟨fun v => R (2 * v + 1) (2 * v), fun _ => rfl⟩
  obtain ⟨A, hA⟩ : ∃ A : Nat → Nat → Nat, ∀ u v, A u v = if u = v then 0 else R (2 * v) (2 * u + 1) := ⟨fun u v => if u = v then 0 else R (2 * v) (2 * u + 1), fun _ _ => rfl⟩
  have coo : ∀ u v, c (2 * u + 1) (2 * v + 1) = 0 := fun u v => by rw [hc]; exact dp_cp_o (by omega)
  have cee : ∀ u v, c (2 * u) (2 * v) = 0 := fun u v => by rw [hc]; exact dp_cp_e (by omega)
  have ceo : ∀ u v, u ≠ v → c (2 * u) (2 * v + 1) = 0 := fun u v h => by rw [hc]; exact dp_cp_e (by omega)
  have coev : ∀ v, c (2 * v + 1) (2 * v) = 0 := fun v => by
    rw [hc, dp_cp_oe]
    apply if_neg
    intro z
    have := z.2.2.2.2
    rw [irr] at this
    exact absurd this (by decide)
  have ree : ∀ u v, u < 8 → v < 8 → R (2 * u) (2 * v) = 0 := fun u v hu hv => by
    have z := f1 (2 * u) (2 * v) (by omega) (by omega)
    rw [cee, cee] at z
    omega
  have roo : ∀ u v, u < 8 → v < 8 → R (2 * u + 1) (2 * v + 1) = 0 := fun u v hu hv => by
    have z := f1 (2 * u + 1) (2 * v + 1) (by omega) (by omega)
    rw [coo, coo] at z
    omega
  have reo : ∀ v, v < 8 → R (2 * v) (2 * v + 1) + T v = c (2 * v) (2 * v + 1) := fun v hv => by
    have z := f1 (2 * v) (2 * v + 1) (by omega) (by omega)
    rw [coev] at z
    rw [hT]
    omega
  have roe : ∀ u v, u < 8 → v < 8 → u ≠ v → R (2 * u + 1) (2 * v) + A u v = c (2 * u + 1) (2 * v) := fun u v hu hv h => by
    have z := f1 (2 * u + 1) (2 * v) (by omega) (by omega)
    rw [ceo v u (fun e => h e.symm)] at z
    rw [hA, if_neg h]
    omega
  -- what comes in
  have inn : ∀ v, v < 8 → v ≠ t → dp_sm (fun u => A u v) 8 = T v := by
    intro v hv vt
    have z := f2 (2 * v) (by omega)
    rw [if_neg (by omega), if_neg (by omega), dp_sm16, dp_sm16 (c (2 * v))] at z
    have z1 : dp_sm (fun u => R (2 * v) (2 * u) + R (2 * v) (2 * u + 1)) 8 = dp_sm (fun u => R (2 * v) (2 * u + 1)) 8 := by
      apply dp_smC
      intro u hu
      rw [ree v u hv hu, Nat.zero_add]
    have z2 : dp_sm (fun u => c (2 * v) (2 * u) + c (2 * v) (2 * u + 1)) 8 = c (2 * v) (2 * v) + c (2 * v) (2 * v + 1) := dp_sm1 (f := fun u => c (2 * v) (2 * u) + c (2 * v) (2 * u + 1)) hv (fun u hu => by
      show c (2 * v) (2 * u) + c (2 * v) (2 * u + 1) = 0
      rw [cee, ceo v u (fun e => hu e.symm)])
    have z3 := dp_smU (f := fun u => R (2 * v) (2 * u + 1)) (h := fun u => A u v) (i := v) (fun u hu => by
      show R (2 * v) (2 * u + 1) = A u v
      rw [hA, if_neg hu]) hv
    have z4 : A v v = 0 := by rw [hA, if_pos rfl]
    have z5 := reo v hv
    have z6 := cee v v
    rw [z1, z2] at z
    simp only [z4] at z3
    omega
  -- what goes out
  have out : ∀ v, v < 8 → T v + (if v = s then k else 0) = dp_sm (fun w => A v w) 8 := by
    intro v hv
    have z := f2 (2 * v + 1) (by omega)
    have i1 : (if 2 * v + 1 = 2 * s + 1 then k else 0) = if v = s then k else 0 := by
      by_cases e : v = s
      · rw [if_pos e, if_pos (by omega)]
      · rw [if_neg e, if_neg (by omega)]
    rw [i1, if_neg (by omega : ¬ 2 * v + 1 = 2 * t), dp_sm16, dp_sm16 (c (2 * v + 1))] at z
    have z1 : dp_sm (fun u => R (2 * v + 1) (2 * u) + R (2 * v + 1) (2 * u + 1)) 8 = dp_sm (fun u => R (2 * v + 1) (2 * u)) 8 := by
      apply dp_smC
      intro u hu
      rw [roo v u hv hu, Nat.add_zero]
    have z2 : dp_sm (fun u => c (2 * v + 1) (2 * u) + c (2 * v + 1) (2 * u + 1)) 8 = dp_sm (fun u => (if u = v then 0 else R (2 * v + 1) (2 * u)) + A v u) 8 := by
      apply dp_smC
      intro u hu
      rw [coo, Nat.add_zero]
      by_cases e : u = v
      · rw [if_pos e, e, coev, hA, if_pos rfl]
      · rw [if_neg e, roe v u hv hu (fun y => e y.symm)]
    have z3 : dp_sm (fun u => R (2 * v + 1) (2 * u)) 8 + (if v = v then 0 else R (2 * v + 1) (2 * v)) = dp_sm (fun u => if u = v then 0 else R (2 * v + 1) (2 * u)) 8 + R (2 * v + 1) (2 * v) := dp_smU (f := fun u => R (2 * v + 1) (2 * u)) (h := fun u => if u = v then 0 else R (2 * v + 1) (2 * u)) (i := v) (fun u hu => by
      show R (2 * v + 1) (2 * u) = if u = v then 0 else R (2 * v + 1) (2 * u)
      rw [if_neg hu]) hv
    have z6 : dp_sm (fun u => (if u = v then 0 else R (2 * v + 1) (2 * u)) + A v u) 8 = dp_sm (fun u => if u = v then 0 else R (2 * v + 1) (2 * u)) 8 + dp_sm (fun u => A v u) 8 := dp_smA (fun u => if u = v then 0 else R (2 * v + 1) (2 * u)) (fun u => A v u) 8
    rw [z1, z2, z6] at z
    rw [if_pos rfl] at z3
    have z4 := hT v
    omega
  have Ts : T s = 0 := by
    have z := f3 (2 * s) (by omega)
    have y := reo s (by omega)
    omega
  have As : ∀ u, u < 8 → A u s = 0 := by
    intro u hu
    have z := inn s (by omega) hne
    have y : (fun u => A u s) u ≤ dp_sm (fun u => A u s) 8 := dp_smT (f := fun u => A u s) hu
    have y' : A u s ≤ dp_sm (fun u => A u s) 8 := y
    omega
  have edge : ∀ u v, u < 8 → v < 8 → 0 < A u v → u ≠ v ∧ (g u).testBit v = true := by
    intro u v hu hv h
    have e : u ≠ v := fun e => by rw [hA, if_pos e] at h; omega
    refine ⟨e, ?_⟩
    have z := roe u v hu hv e
    rw [hc, dp_cp_oe] at z
    apply Classical.byContradiction
    intro y
    rw [if_neg (fun q => y q.2.2.2.2)] at z
    omega
  have T1 : ∀ v, v < 8 → v ≠ s → v ≠ t → T v ≤ 1 ∧ (0 < T v → v < n ∧ sh.testBit v = false) := by
    intro v hv vs vt
    have z := reo v hv
    rw [hc, dp_cp_eo] at z
    by_cases y : v < n ∧ sh.testBit v = false
    · rw [if_pos y, if_neg] at z
      · exact ⟨by omega, fun _ => y⟩
      · rintro (q | q | q)
        · exact vs q
        · exact vt q
        · rw [Nat.zero_testBit] at q
          exact absurd q (by decide)
    · rw [if_neg y] at z
      exact ⟨by omega, fun q => by omega⟩
  have Ale : ∀ u v, u < 8 → v < 8 → v ≠ t → A u v ≤ T v := by
    intro u v hu hv vt
    rw [← inn v hv vt]
    exact dp_smT (f := fun u => A u v) hu
  have A2 : ∀ u w v, u < 8 → w < 8 → v < 8 → v ≠ t → u ≠ w → A u v + A w v ≤ T v := by
    intro u w v hu hw hv vt h
    rw [← inn v hv vt]
    rcases Nat.lt_or_gt_of_ne h with y | y
    · exact dp_smT2 (f := fun u => A u v) y hw
    · have := dp_smT2 (f := fun u => A u v) y hu
      omega
  have vs_of : ∀ u v, u < 8 → 0 < A u v → v ≠ s := fun u v hu h e => by
    rw [e, As u hu] at h
    omega
  obtain ⟨U, hU⟩ := dp_mk (fun v => v ≠ s ∧ v ≠ t ∧ 0 < T v) 8
  obtain ⟨B, hB⟩ := dp_mk (fun v => v ≠ s ∧ v ≠ t ∧ 0 < A s v) 8
  have U8 : U < 256 := dp_lt256 (fun i hi => ((hU i).mp hi).1)
  have hsig : ∃ σ : Nat → Nat, ∀ v, U.testBit v = true → σ v < 8 ∧ 0 < A v (σ v) := by
    have each : ∀ v, ∃ w, U.testBit v = true → w < 8 ∧ 0 < A v w := by
      intro v
      by_cases e : U.testBit v = true
      · obtain ⟨v8, vs, vt, vT⟩ := (hU v).mp e
        have z := out v v8
        rw [if_neg vs] at z
        obtain ⟨w, hw, hp⟩ := dp_smP (f := fun w => A v w) (N := 8) (by omega)
        exact ⟨w, fun _ => ⟨hw, hp⟩⟩
      · exact ⟨0, fun h => absurd h e⟩
    exact ⟨fun v => Classical.choose (each v), fun v => Classical.choose_spec (each v)⟩
  obtain ⟨σ, hσ⟩ := hsig
  refine ⟨dp_cd B, ?_, ?_⟩
  · have z := out s (by omega)
    rw [if_pos rfl, Ts] at z
    have y : dp_sm (fun w => A s w) 8 ≤ dp_sm (fun w => (B.testBit w).toNat + (if w = t then dp_dr g s t else 0)) 8 := by
      apply dp_smL
      intro w hw
      by_cases e : w = t
      · rw [if_pos e]
        have q := roe s w (by omega) hw (by rw [e]; exact hne)
        rw [e, hst] at q
        rw [e]
        omega
      · rw [if_neg e]
        by_cases e2 : w = s
        · rw [e2, As s (by omega)]; exact Nat.zero_le _
        · rcases Nat.eq_zero_or_pos (A s w) with q | q
          · rw [q]; exact Nat.zero_le _
          · rw [(hB w).mpr ⟨hw, e2, e, q⟩]
            have a := Ale s w (by omega) hw e
            have b := (T1 w hw e2 e).1
            show A s w ≤ 1 + 0
            omega
    rw [dp_smA, dp_smI (by omega)] at y
    show k ≤ dp_sm (fun v => (B.testBit v).toNat) 8 + dp_dr g s t
    omega
  · refine dp_Pk_m (m := U) ?_ (dp_link (σ := σ) (dp_cd B) U B U8 ?_ (Nat.le_refl _) ?_ ?_ ?_ ?_ ?_)
    · intro v hv
      obtain ⟨v8, vs, vt, vT⟩ := (hU v).mp hv
      have z := (T1 v v8 vs vt).2 vT
      rw [dp_dnI, dp_inI]
      exact ⟨⟨z.1, vs, vt⟩, z.2⟩
    · intro v hv
      obtain ⟨v8, vs, vt, vA⟩ := (hB v).mp hv
      have a := Ale s v (by omega) v8 vt
      exact (hU v).mpr ⟨v8, vs, vt, by omega⟩
    · intro v hv
      obtain ⟨v8, vs, vt, vT⟩ := (hU v).mp hv
      obtain ⟨w8, wA⟩ := hσ v hv
      have e := (edge v (σ v) v8 w8 wA).2
      by_cases wt : σ v = t
      · refine Or.inl ⟨wt, ?_⟩
        rw [sym, ← wt]
        exact e
      · refine Or.inr ⟨(hU _).mpr ⟨w8, vs_of v _ v8 wA, wt, ?_⟩, e⟩
        have a := Ale v (σ v) v8 w8 wt
        omega
    · rw [dp_bf]
      intro z
      exact ((hU t).mp z).2.2.1 rfl
    · intro v w hv hw e et
      apply Classical.byContradiction
      intro q
      have v8 := ((hU v).mp hv).1
      have w8 := ((hU w).mp hw).1
      obtain ⟨x8, x1⟩ := hσ v hv
      obtain ⟨_, x2⟩ := hσ w hw
      rw [← e] at x2
      have a := A2 v w (σ v) v8 w8 x8 et q
      have b := (T1 (σ v) x8 (vs_of v _ v8 x1) et).1
      omega
    · intro a ha
      obtain ⟨a8, _, _, aA⟩ := (hB a).mp ha
      exact (edge s a (by omega) a8 aA).2
    · intro v hv
      rw [dp_bf]
      intro z
      obtain ⟨x8, xs, xt, xA⟩ := (hB _).mp z
      obtain ⟨v8, vs, vt, vT⟩ := (hU v).mp hv
      obtain ⟨_, x1⟩ := hσ v hv
      have a := A2 v s (σ v) v8 (by omega) x8 xt vs
      have b := (T1 (σ v) x8 xs xt).1
      omega
/-- what a flow of X is -/
def dp_FS (n s t : Nat) (g : Nat → Nat) (sh fi k : Nat) : Prop :=
  k ≤ 9 ∧ (k < 9 → ∃ C, dp_NC n s t g sh fi C ∧ dp_cd C + dp_dr g s t ≤ k) ∧ (∀ C, dp_NC n s t g sh fi C → k ≤ dp_cd C + dp_dr g s t) ∧
  (fi = 0 → ∃ j, k ≤ j + dp_dr g s t ∧ dp_Pk g s t j (dp_dn (dp_in n s t) sh))
theorem dp_dr1 (g : Nat → Nat) (s t : Nat) : dp_dr g s t ≤ 1 := dp_tn_le _
/-- all inner vertices are a cut -/
theorem dp_NC_all {n s t sh : Nat} {g : Nat → Nat} : dp_NC n s t g sh 0 (dp_dn (dp_in n s t) sh) := by
  refine ⟨fun i h => dp_dnI.mpr ⟨h, Nat.zero_testBit i⟩, fun z => dp_Ld_ne z ?_⟩
  apply dp_ext
  intro i
  rw [dp_dnI, Nat.zero_testBit]
  exact ⟨fun y => absurd y.1 (dp_bf.mp y.2), fun y => absurd y (by decide)⟩
theorem dp_FS0 {n s t sh k : Nat} {g : Nat → Nat} (H : dp_ctx n s t g sh) (F : dp_FS n s t g sh 0 k) : k = dp_dr g s t + dp_mx g s t (dp_dn (dp_in n s t) sh) := by
  obtain ⟨a, b, c, d⟩ := F
  obtain ⟨⟨hn3, hn8, sym, irr, bnd⟩, hs, ht, hne, hs0, ht0⟩ := H
  have i8 : dp_in n s t < 256 := dp_in8 hn8
  have m8 : dp_dn (dp_in n s t) sh < 256 := dp_sb256 (dp_dn_sb _ _) i8
  have k1 := c _ dp_NC_all
  have k2 : dp_cd (dp_dn (dp_in n s t) sh) ≤ 6 := Nat.le_trans (dp_cdM (dp_dn_sb _ _)) (dp_in_cd (by omega) (by omega) hne)
  have k3 := dp_dr1 g s t
  obtain ⟨C, hC, hk⟩ := b (by omega)
  obtain ⟨j, hj, hp⟩ := d rfl
  have l1 := dp_mx2 m8 hp
  have l2 := dp_Pk_cut m8 (dp_mx1 (g := g) (s := s) (t := t) m8) hC.2
  have l3 : dp_cd (dp_dn (dp_in n s t) sh &&& C) ≤ dp_cd C := dp_cdM (fun i z => (dp_anI.mp z).2)
  omega
end
section
/-! the reference's walks -/
noncomputable def dp_b1 (P : Prop) : Nat := @ite Nat P (Classical.propDecidable P) 1 0
theorem dp_b1t {P : Prop} (h : P) : dp_b1 P = 1 := by unfold dp_b1; rw [if_pos h]
theorem dp_b1f {P : Prop} (h : ¬ P) : dp_b1 P = 0 := by unfold dp_b1; rw [if_neg h]
def dp_nr (g : Nat → Nat) : Nat → Int32 := fun i => nI (g i)
theorem dp_nrE (g : Nat → Nat) {u : Nat} (h : u < 2 ^ 31) : dp_nr g (nI u).toNatClampNeg = nI (g u) := by
  rw [nI_clamp h]; rfl
theorem dp_Yhas {post : Int32 → Prop} {u : SY} {a v : Nat} (ha : a < 2 ^ 31) (hv : v < 32) (h1 : a.testBit v = true → post 1) (h0 : a.testBit v = false → post 0) : wpY_has post u (nI a) (nI v) := by
  obtain ⟨f_n, f_s, f_t, a_near, a_whole, a_most⟩ := u
  refine And.intro (fun z => h1 ((dp_bit1 ha hv).mp z)) (fun z => h0 (dp_bf.mpr (fun y => z ((dp_bit1 ha hv).mpr y))))
section
variable {n s t m : Nat} {g : Nat → Nat} {wh mo : Nat → Int32}
theorem dp_Yl23 {post : Int32 → Prop} {J : Int32 → Int32 → Prop} {x3 : Int32} (H : dp_ok n g) (hm : m < 256) (r0 : Nat)
    (hJ : ∀ r, (∀ v, r.testBit v = true → dp_Rc g s m v) → dp_sb r0 r → (∀ u, u < n → r0.testBit u = true → dp_sb (g u &&& m) r) → J (nI r) (x3 + 1)) :
    ∀ (d v r : Nat), v + d = n → (∀ v, r.testBit v = true → dp_Rc g s m v) → dp_sb r0 r → (∀ u, u < v → r0.testBit u = true → dp_sb (g u &&& m) r) →
      wY_leads_23 post J (nI m) x3 (nI n) (nI s) (nI t) (dp_nr g) wh mo (d + 1) (nI r) (nI v) := by
  have hn8 := H.2.1
  intro d
  induction d with
  | zero =>
    intro v r hv h1 h2 h3
    have e : v = n := by omega
    refine br_t (nI_le (by omega) (by omega)) (nm_e ?_)
    exact hJ r h1 h2 (by rw [← e]; exact h3)
  | succ d ih =>
    intro v r hv h1 h2 h3
    have hr : r < 256 := dp_sb256 (fun i hi => dp_RcM (h1 i hi)) hm
    refine br_f (nI_ge (by omega) (by omega)) (dp_Yhas (by omega) (by omega) (fun e => ?_) (fun e => ?_))
    · refine br_f (by decide) (And.intro (vp_in_nI (by omega) (by omega)) (nm_r (e' := nI (r ||| (g v &&& m))) ?_ (nm_r (e' := nI (v + 1)) (nI_1 v) ?_)))
      · rw [dp_nrE g (by omega), nx_and, dp_or]
      · refine ih (v + 1) _ (by omega) ?_ ?_ ?_
        · intro w hw
          rcases dp_orI.mp hw with z | z
          · exact h1 w z
          · exact dp_RcS (h1 v e) (dp_anI.mp z).1 (dp_anI.mp z).2
        · exact fun i z => dp_orI.mpr (Or.inl (h2 i z))
        · intro u hu hr0 i z
          rw [dp_orI]
          rcases Nat.lt_or_ge u v with y | y
          · exact Or.inl (h3 u y hr0 i z)
          · have e2 : u = v := by omega
            rw [e2] at z
            exact Or.inr z
    · refine br_t rfl (nm_r (e' := nI (v + 1)) (nI_1 v) ?_)
      refine ih (v + 1) r (by omega) h1 h2 ?_
      intro u hu hr0
      rcases Nat.lt_or_ge u v with y | y
      · exact h3 u y hr0
      · have e2 : u = v := by omega
        rw [e2] at hr0
        exact absurd (h2 v hr0) (dp_bf.mp e)
theorem dp_full {r : Nat} (hm : m < 256) (h : 8 ≤ dp_cd r) : ∀ v, m.testBit v = true → r.testBit v = true := by
  intro v hv
  have v8 := dp_b8 hm hv
  cases e : r.testBit v
  · have a := dp_cdL (a := r) (b := r ||| 2 ^ v) (x := v) (fun i z => dp_orI.mpr (Or.inl z)) v8 (dp_orI.mpr (Or.inr (dp_pwI.mpr rfl))) e
    have b := dp_cd8 (r ||| 2 ^ v)
    omega
  · rfl
theorem dp_Yl14 {post : Int32 → Prop} (H : dp_ok n g) (ht : t < n) (hm : m < 256) (hp : post (nI (dp_b1 (dp_Ld g s t m)))) :
    ∀ (d i r : Nat), i + d = 8 → (∀ v, r.testBit v = true → dp_Rc g s m v) → dp_sb (g s &&& m) r → ((∀ v, dp_Rc g s m v → r.testBit v = true) ∨ i ≤ dp_cd r) →
      wY_leads_14 post (nI m) (nI n) (nI s) (nI t) (dp_nr g) wh mo (d + 1) (nI r) (nI i) := by
  have hn8 := H.2.1
  intro d
  induction d with
  | zero =>
    intro i r hi h1 h2 h3
    have e : i = 8 := by omega
    have hr : r < 256 := dp_sb256 (fun i hi => dp_RcM (h1 i hi)) hm
    have full : ∀ v, dp_Rc g s m v → r.testBit v = true := by
      rcases h3 with z | z
      · exact z
      · exact fun v hv => dp_full hm (by omega) v (dp_RcM hv)
    have gt : g t < 256 := dp_ok8 H t
    have ea : nI r &&& dp_nr g (nI t).toNatClampNeg = nI (r &&& g t) := by rw [dp_nrE g (by omega), nx_and]
    have le : r &&& g t ≤ r := Nat.and_le_left
    have key : r &&& g t = 0 ↔ ¬ dp_Ld g s t m := by
      constructor
      · rintro z ⟨v, r1, r2⟩
        have y : (r &&& g t).testBit v = true := dp_anI.mpr ⟨full v r1, r2⟩
        rw [z, Nat.zero_testBit] at y
        exact absurd y (by decide)
      · intro z
        apply dp_ext
        intro v
        rw [Nat.zero_testBit, dp_anI]
        exact ⟨fun y => absurd ⟨v, h1 v y.1, y.2⟩ z, fun y => absurd y (by decide)⟩
    refine br_t (nI_le (a := 8) (by omega) (by omega)) (And.intro (vp_in_nI (by omega) (by omega)) ?_)
    rw [ea]
    by_cases L : dp_Ld g s t m
    · rw [dp_b1t L] at hp
      refine br_f ?_ hp
      rw [← nI_0, nI_eq (by omega) (by omega), key]
      exact fun z => z L
    · rw [dp_b1f L] at hp
      refine br_t ?_ hp
      rw [← nI_0, nI_eq (by omega) (by omega), key]
      exact L
  | succ d ih =>
    intro i r hi h1 h2 h3
    refine br_f (nI_ge (b := 8) (by omega) (by omega)) ⟨n + 1, ?_⟩
    refine dp_Yl23 (post := post) H hm r ?_ n 0 r (by omega) h1 (dp_sb_rf r) (fun u hu => absurd hu (by omega))
    intro r' k1 k2 k3
    rw [nI_1]
    refine ih (i + 1) r' (by omega) k1 (dp_sb_tr h2 k2) ?_
    rcases h3 with z | z
    · exact Or.inl (fun v hv => k2 v (z v hv))
    · by_cases e : ∃ x, r'.testBit x = true ∧ r.testBit x = false
      · obtain ⟨x, x1, x2⟩ := e
        have := dp_cdL k2 (dp_b8 hm (dp_RcM (k1 x x1))) x1 x2
        exact Or.inr (by omega)
      · refine Or.inl (fun v hv => k2 v ?_)
        have back : dp_sb r' r := by
          intro x hx
          cases q : r.testBit x
          · exact absurd ⟨x, hx, q⟩ e
          · rfl
        exact hv (fun v => r.testBit v = true) (fun w a b => h2 w (dp_anI.mpr ⟨a, b⟩)) (fun u w c a b => back w (k3 u (H.2.2.2.2 u w a).1 c w (dp_anI.mpr ⟨a, b⟩)))
theorem dp_Yleads {post : Int32 → Prop} (H : dp_ok n g) (hs : s < n) (ht : t < n) (hm : m < 256) (hp : post (nI (dp_b1 (dp_Ld g s t m)))) :
    wpY_leads post (nI n, nI s, nI t, dp_nr g, wh, mo) (nI m) := by
  have hn8 := H.2.1
  refine And.intro (vp_in_nI (by omega) (by omega)) (nm_r (e' := nI (g s &&& m)) ?_ ⟨9, ?_⟩)
  · rw [dp_nrE g (by omega), nx_and]
  · exact dp_Yl14 H ht hm hp 8 0 _ rfl (fun v hv => dp_Rc0 (dp_anI.mp hv).1 (dp_anI.mp hv).2) (dp_sb_rf _) (Or.inr (Nat.zero_le _))
theorem dp_Yinner {post : Int32 → Prop} (hn : n ≤ 8) (hs : s < n) (ht : t < n) (hp : post (nI (dp_in n s t))) : wpY_inner post (nI n, nI s, nI t, dp_nr g, wh, mo) := by
  have e : ((((1 : Int32) <<< (nI n &&& 31)) - 1) &&& (((1 : Int32) <<< (nI s &&& 31)) ^^^ (-1))) &&& (((1 : Int32) <<< (nI t &&& 31)) ^^^ (-1)) = nI (dp_in n s t) := by
    have h1 : 1 ≤ 2 ^ n := Nat.one_le_two_pow
    have h2 : nI (2 ^ n) - 1 = nI (2 ^ n - 1) := pk_sub h1
    rw [dp_shl n (by omega), dp_shl s (by omega), dp_shl t (by omega), h2, dp_andn, dp_andn]
    rfl
  show post (((((1 : Int32) <<< (nI n &&& 31)) - 1) &&& (((1 : Int32) <<< (nI s &&& 31)) ^^^ (-1))) &&& (((1 : Int32) <<< (nI t &&& 31)) ^^^ (-1)))
  rw [e]
  exact hp
theorem dp_Yp4 {post : Int32 → Prop} (hm : m < 256) (hw : ∀ p, dp_sb p m → wh p = nI (dp_b1 (dp_Ld g s t p)))
    (ho : ∀ q, dp_sb q m → q ≠ m → mo q = nI (dp_mx g s t q)) (hp : post (nI (dp_mx g s t m))) {fn fs ft : Int32} {nr : Nat → Int32} :
    ∀ (d p b : Nat), p + d = m + 1 → 1 ≤ p → dp_Pk g s t b m → (∀ q, q < p → dp_sb q m → dp_Ld g s t q → 1 + dp_mx g s t (dp_dn m q) ≤ b) →
      wY_parts_4 post (nI m) fn fs ft nr wh mo (d + 1) (nI b) (nI p) := by
  intro d
  induction d with
  | zero =>
    intro p b hpd h1 hb hq
    have e : dp_mx g s t m = b := dp_mxU hm hb (fun j hj => by
      cases j with
      | zero => exact Nat.zero_le _
      | succ j =>
        obtain ⟨q, a1, a2, a3⟩ := hj
        have x := hq q (by have := dp_sb_le a1; omega) a1 a2
        have y := dp_mx2 (dp_sb256 (dp_dn_sb m q) hm) a3
        omega)
    rw [e] at hp
    exact br_t (nI_lt (by omega) (by omega)) hp
  | succ d ih =>
    intro p b hpd h1 hb hq
    have b8 := dp_Pk8 hm hb
    refine br_f (nI_nlt (by omega) (by omega)) ?_
    by_cases hs : dp_sb p m
    · refine br_t (by rw [nx_and, dp_sbI.mpr hs]) (And.intro (vp_in_nI (by omega) (by omega)) ?_)
      have ew : wh (nI p).toNatClampNeg = nI (dp_b1 (dp_Ld g s t p)) := by rw [nI_clamp (by omega)]; exact hw p hs
      rw [ew, dp_andn]
      have d8 : dp_dn m p < 256 := dp_sb256 (dp_dn_sb m p) hm
      by_cases L : dp_Ld g s t p
      · have ne : dp_dn m p ≠ m := by
          intro e
          apply dp_Ld_ne L
          apply dp_ext
          intro i
          rw [Nat.zero_testBit]
          refine ⟨fun y => ?_, fun y => absurd y (by decide)⟩
          have z := hs i y
          rw [← e, dp_dnI] at z
          exact absurd y (dp_bf.mp z.2)
        have eo : mo (nI (dp_dn m p)).toNatClampNeg = nI (dp_mx g s t (dp_dn m p)) := by rw [nI_clamp (by omega)]; exact ho _ (dp_dn_sb m p) ne
        have x8 : dp_mx g s t (dp_dn m p) ≤ 8 := dp_mx8 d8
        have e1 : 1 + nI (dp_mx g s t (dp_dn m p)) = nI (1 + dp_mx g s t (dp_dn m p)) := nI_add 1 _
        rw [dp_b1t L, eo, e1]
        refine br_f (by decide) (And.intro (vp_in_nI d8 (by omega)) ?_)
        rcases Nat.lt_or_ge b (1 + dp_mx g s t (dp_dn m p)) with y | y
        · refine br_f (nI_ge y (by omega)) (And.intro (vp_in_nI d8 (by omega)) (nm_e (nm_r (e' := nI (p + 1)) (nI_1 p) ?_)))
          refine ih (p + 1) _ (by omega) (by omega) ?_ ?_
          · rw [Nat.add_comm]
            exact ⟨p, hs, L, dp_mx1 d8⟩
          · intro q hqp q1 q2
            rcases Nat.lt_or_ge q p with z | z
            · have := hq q z q1 q2
              omega
            · have e : q = p := by omega
              rw [e]
              exact Nat.le_refl _
        · refine br_t (nI_le y (by omega)) (nm_r (e' := nI (p + 1)) (nI_1 p) ?_)
          refine ih (p + 1) b (by omega) (by omega) hb ?_
          intro q hqp q1 q2
          rcases Nat.lt_or_ge q p with z | z
          · exact hq q z q1 q2
          · have e : q = p := by omega
            rw [e]
            exact y
      · rw [dp_b1f L]
        refine br_t rfl (nm_r (e' := nI (p + 1)) (nI_1 p) ?_)
        refine ih (p + 1) b (by omega) (by omega) hb ?_
        intro q hqp q1 q2
        rcases Nat.lt_or_ge q p with z | z
        · exact hq q z q1 q2
        · have e : q = p := by omega
          rw [e] at q2
          exact absurd q2 L
    · refine br_f ?_ (nm_r (e' := nI (p + 1)) (nI_1 p) ?_)
      · rw [nx_and, nI_eq (by have : p &&& m ≤ p := Nat.and_le_left
                              omega) (by omega)]
        exact fun z => hs (dp_sbI.mp z)
      · refine ih (p + 1) b (by omega) (by omega) hb ?_
        intro q hqp q1 q2
        rcases Nat.lt_or_ge q p with z | z
        · exact hq q z q1 q2
        · have e : q = p := by omega
          rw [e] at q1
          exact absurd q1 hs
theorem dp_Yparts {post : Int32 → Prop} (hm : m < 256) (hw : ∀ p, dp_sb p m → wh p = nI (dp_b1 (dp_Ld g s t p)))
    (ho : ∀ q, dp_sb q m → q ≠ m → mo q = nI (dp_mx g s t q)) (hp : post (nI (dp_mx g s t m))) {fn fs ft : Int32} {nr : Nat → Int32} :
    wpY_parts post (fn, fs, ft, nr, wh, mo) (nI m) :=
  ⟨m + 1, dp_Yp4 hm hw ho hp m 1 0 (by omega) (by omega) trivial (fun q hq _ h => absurd (by omega) (dp_Ld_ne h))⟩
end
theorem dp_Yp33 {n s t : Nat} {g : Nat → Nat} {post : Int32 → SY → Prop} {D : Nat} (H : dp_ok n g) (hs : s < n) (ht : t < n) (hD : D ≤ 1)
    (hp : ∀ wh mo, post (nI (D + dp_mx g s t (dp_in n s t))) (nI n, nI s, nI t, dp_nr g, wh, mo)) :
    ∀ (d i : Nat) (wh mo : Nat → Int32), i + d = dp_in n s t + 1 → (∀ q, q < i → dp_sb q (dp_in n s t) → wh q = nI (dp_b1 (dp_Ld g s t q)) ∧ mo q = nI (dp_mx g s t q)) →
      wY_paths_33 post (nI (dp_in n s t)) (nI D) (nI n) (nI s) (nI t) (d + 1) (nI i) (dp_nr g) wh mo := by
  have i8 : dp_in n s t < 256 := dp_in8 H.2.1
  generalize hI : dp_in n s t = I at *
  intro d
  induction d with
  | zero =>
    intro i wh mo hi h
    refine br_t (nI_lt (by omega) (by omega)) (And.intro (vp_in_nI i8 (by omega)) ?_)
    have e : mo (nI I).toNatClampNeg = nI (dp_mx g s t I) := by rw [nI_clamp (by omega)]; exact (h I (by omega) (dp_sb_rf I)).2
    rw [e, nI_add]
    exact hp wh mo
  | succ d ih =>
    intro i wh mo hi h
    refine br_f (nI_nlt (by omega) (by omega)) ?_
    by_cases hsb : dp_sb i I
    · refine br_t (by rw [nx_and, dp_sbI.mpr hsb]) (dp_Yleads H hs ht (by omega) (And.intro (vp_in_nI (by omega) (by omega)) (nm_e ?_)))
      have en : vp_nar .boolean (nI (dp_b1 (dp_Ld g s t i))) = nI (dp_b1 (dp_Ld g s t i)) := by
        rcases Classical.em (dp_Ld g s t i) with L | L
        · rw [dp_b1t L]; rfl
        · rw [dp_b1f L]; rfl
      rw [en, nI_clamp (by omega)]
      have wq : ∀ q, q < i + 1 → dp_sb q I → upd wh i (nI (dp_b1 (dp_Ld g s t i))) q = nI (dp_b1 (dp_Ld g s t q)) := by
        intro q hq q1
        by_cases e : q = i
        · rw [e, pk_us]
        · rw [pk_un e]; exact (h q (by omega) q1).1
      refine dp_Yparts (by omega) (fun p hp => wq p (by have := dp_sb_le hp; omega) (dp_sb_tr hp hsb)) (fun q hq ne => (h q (by have := dp_sb_le hq; omega) (dp_sb_tr hq hsb)).2) ?_
      refine And.intro (vp_in_nI (by omega) (by omega)) (nm_e (nm_r (e' := nI (i + 1)) (nI_1 i) ?_))
      refine ih (i + 1) _ _ (by omega) (fun q hq q1 => ⟨wq q hq q1, ?_⟩)
      by_cases e : q = i
      · rw [e, pk_us]
      · rw [pk_un e]; exact (h q (by omega) q1).2
    · refine br_f ?_ (nm_r (e' := nI (i + 1)) (nI_1 i) ?_)
      · rw [nx_and, nI_eq (by have : i &&& I ≤ i := Nat.and_le_left
                              omega) (by omega)]
        exact fun z => hsb (dp_sbI.mp z)
      · refine ih (i + 1) wh mo (by omega) (fun q hq q1 => h q ?_ q1)
        rcases Nat.lt_or_ge q i with z | z
        · exact z
        · have e : q = i := by omega
          rw [e] at q1
          exact absurd q1 hsb
theorem dp_Ypaths {n s t : Nat} {g : Nat → Nat} {wh mo : Nat → Int32} {post : Int32 → SY → Prop} (H : dp_ok n g) (hs : s < n) (ht : t < n)
    (hp : ∀ wh mo, post (nI (dp_dr g s t + dp_mx g s t (dp_in n s t))) (nI n, nI s, nI t, dp_nr g, wh, mo)) :
    wpY_paths post (nI n, nI s, nI t, dp_nr g, wh, mo) := by
  have hn8 := H.2.1
  unfold wpY_paths
  dsimp only
  refine dp_Yinner hn8 hs ht ?_
  refine And.intro (vp_in_nI (by omega) (by omega)) ?_
  rw [dp_nrE g (by omega)]
  refine dp_Yhas (by have := dp_ok8 H s; omega) (by omega) (fun e => ?_) (fun e => ?_)
  · refine br_f (by decide) ⟨dp_in n s t + 2, ?_⟩
    have e2 : dp_dr g s t = 1 := by unfold dp_dr; rw [e]; rfl
    rw [e2] at hp
    exact dp_Yp33 H hs ht (by omega) hp (dp_in n s t + 1) 0 wh mo (by omega) (fun q hq => absurd hq (by omega))
  · refine br_t rfl ⟨dp_in n s t + 2, ?_⟩
    have e2 : dp_dr g s t = 0 := by unfold dp_dr; rw [e]; rfl
    rw [e2] at hp
    exact dp_Yp33 H hs ht (by omega) hp (dp_in n s t + 1) 0 wh mo (by omega) (fun q hq => absurd hq (by omega))
end
section
/-! the reference's sizes and cuts -/
theorem dp_Ysz4 {post : Int32 → Prop} {m : Nat} (hm : m < 256) (hp : post (nI (dp_cd m))) {fn fs ft : Int32} {nr wh mo : Nat → Int32} :
    ∀ d i : Nat, i + d = 8 → wY_sizeOf_4 post (nI m) fn fs ft nr wh mo (d + 1) (nI (dp_sm (fun v => (m.testBit v).toNat) i)) (nI i) := by
  intro d
  induction d with
  | zero =>
    intro i hi
    have e : i = 8 := by omega
    subst e
    exact br_t (nI_le (a := 8) (Nat.le_refl _) (by omega)) hp
  | succ d ih =>
    intro i hi
    refine br_f (nI_ge (b := 8) (by omega) (by omega)) (nm_r (e' := nI (dp_sm (fun v => (m.testBit v).toNat) (i + 1))) ?_ (nm_r (e' := nI (i + 1)) (nI_1 i) (ih (i + 1) (by omega))))
    rw [dp_bit (by omega) (by omega), nI_add]
    rfl
theorem dp_Ysize {post : Int32 → Prop} {m : Nat} {u : SY} (hm : m < 256) (hp : post (nI (dp_cd m))) : wpY_sizeOf post u (nI m) := by
  obtain ⟨fn, fs, ft, nr, wh, mo⟩ := u
  exact ⟨9, dp_Ysz4 hm hp 8 0 rfl⟩
def dp_IC (n s t : Nat) (g : Nat → Nat) (C : Nat) : Prop := (g s).testBit t = false ∧ dp_sb C (dp_in n s t) ∧ ¬ dp_Ld g s t (dp_dn (dp_in n s t) C)
section
variable {n s t : Nat} {g : Nat → Nat} {wh mo : Nat → Int32}
theorem dp_YisCut {post : Int32 → Prop} {C : Nat} (H : dp_ok n g) (hs : s < n) (ht : t < n) (hC : C < 256) (hp : post (nI (dp_b1 (dp_IC n s t g C)))) :
    wpY_isCut post (nI n, nI s, nI t, dp_nr g, wh, mo) (nI C) := by
  have hn8 := H.2.1
  have i8 : dp_in n s t < 256 := dp_in8 hn8
  unfold wpY_isCut
  dsimp only
  refine And.intro (vp_in_nI (by omega) (by omega)) ?_
  rw [dp_nrE g (by omega)]
  refine dp_Yhas (by have := dp_ok8 H s; omega) (by omega) (fun e => ?_) (fun e => ?_)
  · refine br_f (by decide) ?_
    rw [dp_b1f (fun z => by have := z.1; rw [e] at this; exact absurd this (by decide))] at hp
    exact hp
  · refine br_t rfl ?_
    refine dp_Yinner hn8 hs ht ?_
    by_cases hsb : dp_sb C (dp_in n s t)
    · refine br_t (by rw [nx_and, dp_sbI.mpr hsb]) ?_
      refine dp_Yinner hn8 hs ht ?_
      rw [dp_andn]
      refine dp_Yleads H hs ht (dp_sb256 (dp_dn_sb _ _) i8) ?_
      by_cases L : dp_Ld g s t (dp_dn (dp_in n s t) C)
      · rw [dp_b1t L]
        rw [dp_b1f (fun z => z.2.2 L)] at hp
        exact br_f (by decide) hp
      · rw [dp_b1f L]
        rw [dp_b1t ⟨e, hsb, L⟩] at hp
        exact br_t rfl hp
    · refine br_f ?_ ?_
      · rw [nx_and, nI_eq (by have : C &&& dp_in n s t ≤ C := Nat.and_le_left
                              omega) (by omega)]
        exact fun z => hsb (dp_sbI.mp z)
      · rw [dp_b1f (fun z => hsb z.2.1)] at hp
        exact hp
theorem dp_inlt (n s t : Nat) : dp_in n s t < 2 ^ n := by
  have h : dp_sb (dp_in n s t) (2 ^ n - 1) := fun i z => by
    rw [Nat.testBit_two_pow_sub_one, decide_eq_true_iff]
    exact (dp_inI.mp z).1
  have a := dp_sb_le h
  have b : 1 ≤ 2 ^ n := Nat.one_le_two_pow
  omega
/-- the state of the search for a least cut, below i -/
def dp_LS (n s t : Nat) (g : Nat → Nat) (w i : Nat) (x2 x3 : Int32) : Prop :=
  (x2 = -4 ∧ x3 = 9 ∧ ∀ C, C < i → dp_sb w C → ¬ dp_IC n s t g C) ∨
  (∃ B, B < i ∧ x2 = nI B ∧ x3 = nI (dp_cd B) ∧ dp_sb w B ∧ dp_IC n s t g B ∧ ∀ C, C < i → dp_sb w C → dp_IC n s t g C → dp_cd B ≤ dp_cd C ∧ (dp_cd C = dp_cd B → B ≤ C))
theorem dp_LS_skip {w i : Nat} {x2 x3 : Int32} (h : dp_LS n s t g w i x2 x3) (no : dp_sb w i → ¬ dp_IC n s t g i) : dp_LS n s t g w (i + 1) x2 x3 := by
  rcases h with ⟨a, b, c⟩ | ⟨B, bi, a, b, c, d, e⟩
  · refine Or.inl ⟨a, b, fun C hC hw => ?_⟩
    rcases Nat.lt_or_ge C i with z | z
    · exact c C z hw
    · have q : C = i := by omega
      rw [q] at hw ⊢
      exact no hw
  · refine Or.inr ⟨B, by omega, a, b, c, d, fun C hC hw hi => ?_⟩
    rcases Nat.lt_or_ge C i with z | z
    · exact e C z hw hi
    · have q : C = i := by omega
      rw [q] at hw hi
      exact absurd hi (no hw)
theorem dp_Yl9 {post : Int32 → Prop} {w : Nat} (H : dp_ok n g) (hs : s < n) (ht : t < n) (hw : w < 256)
    (h0 : (∀ C, dp_sb w C → ¬ dp_IC n s t g C) → post (-4))
    (h1 : ∀ B, dp_sb w B → dp_IC n s t g B → (∀ C, dp_sb w C → dp_IC n s t g C → dp_cd B ≤ dp_cd C ∧ (dp_cd C = dp_cd B → B ≤ C)) → post (nI B)) :
    ∀ (d i : Nat) (x2 x3 : Int32), i + d = 2 ^ n → dp_LS n s t g w i x2 x3 → wY_leastCut_9 post (nI w) (nI n) (nI s) (nI t) (dp_nr g) wh mo (d + 1) x2 x3 (nI i) := by
  have hn8 := H.2.1
  have pn : 2 ^ n ≤ 2 ^ 8 := Nat.pow_le_pow_right (by omega) hn8
  have icb : ∀ C, dp_IC n s t g C → C < 2 ^ n := fun C h => by
    have a := dp_sb_le h.2.1
    have b := dp_inlt n s t
    omega
  intro d
  induction d with
  | zero =>
    intro i x2 x3 hi hL
    refine br_t ?_ ?_
    · rw [dp_shl n (by omega)]
      exact nI_le (by omega) (by omega)
    · rcases hL with ⟨a, b, c⟩ | ⟨B, bi, a, b, c, d, e⟩
      · rw [a]
        exact h0 (fun C hw hc => c C (by have := icb C hc; omega) hw hc)
      · rw [a]
        exact h1 B c d (fun C hw hc => e C (by have := icb C hc; omega) hw hc)
  | succ d ih =>
    intro i x2 x3 hi hL
    refine br_f ?_ ?_
    · rw [dp_shl n (by omega)]
      exact nI_ge (by omega) (by omega)
    · by_cases hsb : dp_sb w i
      · refine br_t ?_ ?_
        · rw [nx_and, Nat.and_comm, dp_sbI.mpr hsb]
        · refine dp_YisCut H hs ht (by omega) ?_
          by_cases hc : dp_IC n s t g i
          · rw [dp_b1t hc]
            refine br_f (by decide) ?_
            refine dp_Ysize (by omega) ?_
            have c8 := dp_cd8 i
            have key : (x3 ≤ nI (dp_cd i) ∧ dp_LS n s t g w (i + 1) x2 x3) ∨ (¬ x3 ≤ nI (dp_cd i) ∧ dp_LS n s t g w (i + 1) (nI i) (nI (dp_cd i))) := by
              rcases hL with ⟨a, b, c⟩ | ⟨B, bi, a, b, c, dd, e⟩
              · refine Or.inr ⟨?_, Or.inr ⟨i, by omega, rfl, rfl, hsb, hc, fun C hC hwC hcC => ?_⟩⟩
                · rw [b]
                  exact nI_ge (b := 9) (by omega) (by omega)
                · rcases Nat.lt_or_ge C i with z | z
                  · exact absurd hcC (c C z hwC)
                  · have q : C = i := by omega
                    rw [q]
                    exact ⟨Nat.le_refl _, fun _ => Nat.le_refl _⟩
              · have B8 := dp_cd8 B
                rcases Nat.lt_or_ge (dp_cd i) (dp_cd B) with y | y
                · refine Or.inr ⟨?_, Or.inr ⟨i, by omega, rfl, rfl, hsb, hc, fun C hC hwC hcC => ?_⟩⟩
                  · rw [b]
                    exact nI_ge y (by omega)
                  · rcases Nat.lt_or_ge C i with z | z
                    · have := (e C z hwC hcC).1
                      exact ⟨by omega, fun q => by omega⟩
                    · have q : C = i := by omega
                      rw [q]
                      exact ⟨Nat.le_refl _, fun _ => Nat.le_refl _⟩
                · refine Or.inl ⟨?_, Or.inr ⟨B, by omega, a, b, c, dd, fun C hC hwC hcC => ?_⟩⟩
                  · rw [b]
                    exact nI_le y (by omega)
                  · rcases Nat.lt_or_ge C i with z | z
                    · exact e C z hwC hcC
                    · have q : C = i := by omega
                      rw [q]
                      exact ⟨y, fun _ => by omega⟩
            rcases key with ⟨k1, k2⟩ | ⟨k1, k2⟩
            · exact br_t k1 (nm_r (e' := nI (i + 1)) (nI_1 i) (ih (i + 1) x2 x3 (by omega) k2))
            · refine br_f k1 ?_
              refine dp_Ysize (by omega) ?_
              exact nm_r (e' := nI (i + 1)) (nI_1 i) (ih (i + 1) _ _ (by omega) k2)
          · rw [dp_b1f hc]
            exact br_t rfl (nm_r (e' := nI (i + 1)) (nI_1 i) (ih (i + 1) x2 x3 (by omega) (dp_LS_skip hL (fun _ => hc))))
      · refine br_f ?_ (nm_r (e' := nI (i + 1)) (nI_1 i) (ih (i + 1) x2 x3 (by omega) (dp_LS_skip hL (fun z => absurd z hsb))))
        rw [nx_and, nI_eq (by have : i &&& w ≤ i := Nat.and_le_left
                              omega) (by omega), Nat.and_comm]
        exact fun z => hsb (dp_sbI.mp z)
theorem dp_Yleast {post : Int32 → Prop} {w : Nat} (H : dp_ok n g) (hs : s < n) (ht : t < n) (hw : w < 256)
    (h0 : (∀ C, dp_sb w C → ¬ dp_IC n s t g C) → post (-4))
    (h1 : ∀ B, dp_sb w B → dp_IC n s t g B → (∀ C, dp_sb w C → dp_IC n s t g C → dp_cd B ≤ dp_cd C ∧ (dp_cd C = dp_cd B → B ≤ C)) → post (nI B)) :
    wpY_leastCut post (nI n, nI s, nI t, dp_nr g, wh, mo) (nI w) :=
  ⟨2 ^ n + 1, dp_Yl9 H hs ht hw h0 h1 (2 ^ n) 0 (-4) 9 (by omega) (Or.inl ⟨rfl, rfl, fun C hC => absurd hC (by omega)⟩)⟩
end
end
section
/-! edges put in and taken away -/
def dp_ad (g : Nat → Nat) (u v : Nat) : Nat → Nat := fun w => if w = v then g v ||| 2 ^ u else if w = u then g u ||| 2 ^ v else g w
def dp_rm (g : Nat → Nat) (u v : Nat) : Nat → Nat := fun w => if w = v then dp_dn (g v) (2 ^ u) else if w = u then dp_dn (g u) (2 ^ v) else g w
theorem dp_adI {g : Nat → Nat} {u v : Nat} (h : u ≠ v) {w x : Nat} : ((dp_ad g u v) w).testBit x = true ↔ (g w).testBit x = true ∨ (w = u ∧ x = v) ∨ (w = v ∧ x = u) := by
  unfold dp_ad
  by_cases e : w = v
  · rw [if_pos e, dp_orI, dp_pwI, e]
    constructor
    · rintro (z | z)
      · exact Or.inl z
      · exact Or.inr (Or.inr ⟨rfl, z⟩)
    · rintro (z | z | z)
      · exact Or.inl z
      · exact absurd z.1.symm h
      · exact Or.inr z.2
  · rw [if_neg e]
    by_cases e2 : w = u
    · rw [if_pos e2, dp_orI, dp_pwI, e2]
      constructor
      · rintro (z | z)
        · exact Or.inl z
        · exact Or.inr (Or.inl ⟨rfl, z⟩)
      · rintro (z | z | z)
        · exact Or.inl z
        · exact Or.inr z.2
        · exact absurd z.1 h
    · rw [if_neg e2]
      constructor
      · exact Or.inl
      · rintro (z | z | z)
        · exact z
        · exact absurd z.1 e2
        · exact absurd z.1 e
theorem dp_rmI {g : Nat → Nat} {u v : Nat} (h : u ≠ v) {w x : Nat} : ((dp_rm g u v) w).testBit x = true ↔ (g w).testBit x = true ∧ ¬ (w = u ∧ x = v) ∧ ¬ (w = v ∧ x = u) := by
  unfold dp_rm
  by_cases e : w = v
  · rw [if_pos e, dp_dnI, dp_bf, dp_pwI, e]
    constructor
    · rintro ⟨z, y⟩
      exact ⟨z, fun q => h q.1.symm, fun q => y q.2⟩
    · rintro ⟨z, _, y⟩
      exact ⟨z, fun q => y ⟨rfl, q⟩⟩
  · rw [if_neg e]
    by_cases e2 : w = u
    · rw [if_pos e2, dp_dnI, dp_bf, dp_pwI, e2]
      constructor
      · rintro ⟨z, y⟩
        exact ⟨z, fun q => y q.2, fun q => h q.1⟩
      · rintro ⟨z, y, _⟩
        exact ⟨z, fun q => y ⟨rfl, q⟩⟩
    · rw [if_neg e2]
      exact ⟨fun z => ⟨z, fun q => e2 q.1, fun q => e q.1⟩, fun z => z.1⟩
theorem dp_gext {g h : Nat → Nat} (H : ∀ w x, (g w).testBit x = true ↔ (h w).testBit x = true) : g = h := funext (fun w => dp_ext (H w))
theorem dp_beq {a b : Bool} (h : a = true ↔ b = true) : a = b := Bool.eq_iff_iff.mpr h
theorem dp_ad_ok {n u v : Nat} {g : Nat → Nat} (H : dp_ok n g) (hu : u < n) (hv : v < n) (h : u ≠ v) : dp_ok n (dp_ad g u v) := by
  obtain ⟨a, b, sym, irr, bnd⟩ := H
  refine ⟨a, b, fun x y => dp_beq ?_, fun x => dp_bf.mpr ?_, fun x y => ?_⟩
  · rw [dp_adI h, dp_adI h, sym x y]
    constructor
    · rintro (z | z | z)
      · exact Or.inl z
      · exact Or.inr (Or.inr ⟨z.2, z.1⟩)
      · exact Or.inr (Or.inl ⟨z.2, z.1⟩)
    · rintro (z | z | z)
      · exact Or.inl z
      · exact Or.inr (Or.inr ⟨z.2, z.1⟩)
      · exact Or.inr (Or.inl ⟨z.2, z.1⟩)
  · rw [dp_adI h]
    rintro (z | z | z)
    · exact dp_bf.mp (irr x) z
    · exact h (z.1.symm.trans z.2)
    · exact h (z.2.symm.trans z.1)
  · rw [dp_adI h]
    rintro (z | z | z)
    · exact bnd x y z
    · rw [z.1, z.2]; exact ⟨hu, hv⟩
    · rw [z.1, z.2]; exact ⟨hv, hu⟩
theorem dp_rm_ok {n u v : Nat} {g : Nat → Nat} (H : dp_ok n g) (h : u ≠ v) : dp_ok n (dp_rm g u v) := by
  obtain ⟨a, b, sym, irr, bnd⟩ := H
  refine ⟨a, b, fun x y => dp_beq ?_, fun x => dp_bf.mpr ?_, fun x y => ?_⟩
  · rw [dp_rmI h, dp_rmI h, sym x y]
    constructor
    · rintro ⟨z, p, q⟩
      exact ⟨z, fun r => q ⟨r.2, r.1⟩, fun r => p ⟨r.2, r.1⟩⟩
    · rintro ⟨z, p, q⟩
      exact ⟨z, fun r => q ⟨r.2, r.1⟩, fun r => p ⟨r.2, r.1⟩⟩
  · rw [dp_rmI h]
    exact fun z => dp_bf.mp (irr x) z.1
  · rw [dp_rmI h]
    exact fun z => bnd x y z.1
theorem dp_rmad {n u v : Nat} {g : Nat → Nat} (H : dp_ok n g) (h : u ≠ v) (e : (g u).testBit v = false) : dp_rm (dp_ad g u v) u v = g := by
  apply dp_gext
  intro w x
  rw [dp_rmI h, dp_adI h]
  constructor
  · rintro ⟨z | z | z, p, q⟩
    · exact z
    · exact absurd z p
    · exact absurd z q
  · intro z
    refine ⟨Or.inl z, fun r => ?_, fun r => ?_⟩
    · rw [r.1, r.2] at z
      exact dp_bf.mp e z
    · rw [r.1, r.2, H.2.2.1] at z
      exact dp_bf.mp e z
theorem dp_adrm {n u v : Nat} {g : Nat → Nat} (H : dp_ok n g) (h : u ≠ v) (e : (g u).testBit v = true) : dp_ad (dp_rm g u v) u v = g := by
  apply dp_gext
  intro w x
  rw [dp_adI h, dp_rmI h]
  constructor
  · rintro (z | z | z)
    · exact z.1
    · rw [z.1, z.2]; exact e
    · rw [z.1, z.2, H.2.2.1]; exact e
  · intro z
    by_cases p : w = u ∧ x = v
    · exact Or.inr (Or.inl p)
    · by_cases q : w = v ∧ x = u
      · exact Or.inr (Or.inr q)
      · exact Or.inl ⟨z, p, q⟩
theorem dp_upA {g : Nat → Nat} {u v : Nat} (h : u ≠ v) : upd (upd (dp_nr g) u (nI (g u ||| 2 ^ v))) v (nI (g v ||| 2 ^ u)) = dp_nr (dp_ad g u v) := by
  funext w
  unfold upd dp_nr dp_ad
  by_cases e : w = v
  · rw [if_pos e, if_pos e]
  · rw [if_neg e, if_neg e]
    by_cases e2 : w = u
    · rw [if_pos e2, if_pos e2]
    · rw [if_neg e2, if_neg e2]
theorem dp_upR {g : Nat → Nat} {u v : Nat} (h : u ≠ v) : upd (upd (dp_nr g) u (nI (dp_dn (g u) (2 ^ v)))) v (nI (dp_dn (g v) (2 ^ u))) = dp_nr (dp_rm g u v) := by
  funext w
  unfold upd dp_nr dp_rm
  by_cases e : w = v
  · rw [if_pos e, if_pos e]
  · rw [if_neg e, if_neg e]
    by_cases e2 : w = u
    · rw [if_pos e2, if_pos e2]
    · rw [if_neg e2, if_neg e2]
section
variable {u v : Nat} {g : Nat → Nat} {fn fs ft : Int32} {rm cf q st wh mo : Nat → Int32}
theorem dp_upE (x : Int32) (h : u ≠ v) (hv : v < 8) : upd (dp_nr g) u x (nI v).toNatClampNeg = nI (g v) := by
  rw [nI_clamp (by omega), pk_un (fun e => h e.symm)]; rfl
theorem dp_Xlinked {post : Int32 → Prop} (hg : g u < 256) (hu : u < 8) (hv : v < 8) (h1 : (g u).testBit v = true → post 1) (h0 : (g u).testBit v = false → post 0) :
    wpX_linked post (fn, fs, ft, dp_nr g, rm, cf, q, st) (nI u) (nI v) := by
  unfold wpX_linked
  dsimp only
  refine And.intro (vp_in_nI (by omega) (by omega)) ?_
  rw [dp_nrE g (by omega)]
  exact And.intro (fun z => h1 ((dp_bit1 (by omega) (by omega)).mp z)) (fun z => h0 (dp_bf.mpr (fun y => z ((dp_bit1 (by omega) (by omega)).mpr y))))
theorem dp_Xlink {post : SX → Prop} (hu : u < 8) (hv : v < 8) (h : u ≠ v) (hp : post (fn, fs, ft, dp_nr (dp_ad g u v), rm, cf, q, st)) :
    wpX_link post (fn, fs, ft, dp_nr g, rm, cf, q, st) (nI u) (nI v) := by
  have iu : vp_in (nI u) 8 := vp_in_nI hu (by omega)
  have iv : vp_in (nI v) 8 := vp_in_nI hv (by omega)
  unfold wpX_link
  dsimp only
  refine ⟨iu, iu, nm_r (e' := upd (dp_nr g) u (nI (g u ||| 2 ^ v))) ?_ ⟨iv, iv, nm_r (e' := dp_nr (dp_ad g u v)) ?_ hp⟩⟩
  · rw [dp_nrE g (by omega), nI_clamp (by omega), dp_shl v (by omega), dp_or]
  · rw [dp_upE _ h hv, nI_clamp (by omega), dp_shl u (by omega), dp_or, dp_upA h]
theorem dp_Xunlink {post : SX → Prop} (hu : u < 8) (hv : v < 8) (h : u ≠ v) (hp : post (fn, fs, ft, dp_nr (dp_rm g u v), rm, cf, q, st)) :
    wpX_unlink post (fn, fs, ft, dp_nr g, rm, cf, q, st) (nI u) (nI v) := by
  have iu : vp_in (nI u) 8 := vp_in_nI hu (by omega)
  have iv : vp_in (nI v) 8 := vp_in_nI hv (by omega)
  unfold wpX_unlink
  dsimp only
  refine ⟨iu, iu, nm_r (e' := upd (dp_nr g) u (nI (dp_dn (g u) (2 ^ v)))) ?_ ⟨iv, iv, nm_r (e' := dp_nr (dp_rm g u v)) ?_ hp⟩⟩
  · rw [dp_nrE g (by omega), nI_clamp (by omega), dp_shl v (by omega), dp_andn]
  · rw [dp_upE _ h hv, nI_clamp (by omega), dp_shl u (by omega), dp_andn, dp_upR h]
theorem dp_Yput1 {post : SY → Prop} {x : Int32} (hx : x ≠ 0) (hu : u < 8) (hv : v < 8) (h : u ≠ v) (hp : post (fn, fs, ft, dp_nr (dp_ad g u v), wh, mo)) :
    wpY_put post (fn, fs, ft, dp_nr g, wh, mo) (nI u) (nI v) x := by
  have iu : vp_in (nI u) 8 := vp_in_nI hu (by omega)
  have iv : vp_in (nI v) 8 := vp_in_nI hv (by omega)
  unfold wpY_put
  dsimp only
  refine br_f hx ⟨iu, ?_⟩
  unfold wY_put_34
  refine ⟨iu, nm_r (e' := upd (dp_nr g) u (nI (g u ||| 2 ^ v))) ?_ (br_f hx ⟨iv, iv, nm_r (e' := dp_nr (dp_ad g u v)) ?_ hp⟩)⟩
  · rw [dp_nrE g (by omega), nI_clamp (by omega), dp_shl v (by omega), dp_or]
  · rw [dp_upE _ h hv, nI_clamp (by omega), dp_shl u (by omega), dp_or, dp_upA h]
theorem dp_Yput0 {post : SY → Prop} (hu : u < 8) (hv : v < 8) (h : u ≠ v) (hp : post (fn, fs, ft, dp_nr (dp_rm g u v), wh, mo)) :
    wpY_put post (fn, fs, ft, dp_nr g, wh, mo) (nI u) (nI v) 0 := by
  have iu : vp_in (nI u) 8 := vp_in_nI hu (by omega)
  have iv : vp_in (nI v) 8 := vp_in_nI hv (by omega)
  unfold wpY_put
  dsimp only
  refine br_t rfl ⟨iu, ?_⟩
  unfold wY_put_34
  refine ⟨iu, nm_r (e' := upd (dp_nr g) u (nI (dp_dn (g u) (2 ^ v)))) ?_ (br_t rfl ⟨iv, iv, nm_r (e' := dp_nr (dp_rm g u v)) ?_ hp⟩)⟩
  · rw [dp_nrE g (by omega), nI_clamp (by omega), dp_shl v (by omega), dp_andn]
  · rw [dp_upE _ h hv, nI_clamp (by omega), dp_shl u (by omega), dp_andn, dp_upR h]
end
end
section
/-! the component lays out the split graph -/
def dp_RM (room : Nat → Int32) (R : Nat → Nat → Nat) : Prop := ∀ a b, a < 16 → b < 16 → room (a * 16 + b) = nI (R a b)
def dp_c0 (n s t : Nat) (g : Nat → Nat) (sh fi a b : Nat) : Nat :=
  if a % 2 = 0 then
    (if b = a + 1 ∧ a / 2 < n ∧ sh.testBit (a / 2) = false then (if a / 2 = s ∨ a / 2 = t ∨ fi.testBit (a / 2) = true then 9 else 1) else 0)
  else
    (if b % 2 = 0 ∧ a / 2 < n ∧ b / 2 < n ∧ sh.testBit (a / 2) = false ∧ sh.testBit (b / 2) = false ∧ (g (a / 2)).testBit (b / 2) = true then 9 else 0)
section
variable {n s t sh fi : Nat} {g : Nat → Nat}
theorem dp_cp_c0 {a b : Nat} (h : ¬ (a = 2 * s + 1 ∧ b = 2 * t)) : dp_cp n s t g sh fi a b = dp_c0 n s t g sh fi a b := by
  unfold dp_cp dp_c0
  by_cases e : a % 2 = 0
  · rw [if_pos e, if_pos e]
  · rw [if_neg e, if_neg e]
    by_cases c : b % 2 = 0 ∧ a / 2 < n ∧ b / 2 < n ∧ sh.testBit (a / 2) = false ∧ sh.testBit (b / 2) = false ∧ (g (a / 2)).testBit (b / 2) = true
    · rw [if_pos c, if_pos c, if_neg]
      intro z
      have := c.1
      exact h ⟨by omega, by omega⟩
    · rw [if_neg c, if_neg c]
theorem dp_c0_n {a b : Nat} (h : n ≤ a / 2) : dp_c0 n s t g sh fi a b = 0 := by
  unfold dp_c0
  by_cases e : a % 2 = 0
  · rw [if_pos e, if_neg (fun z => by omega)]
  · rw [if_neg e, if_neg (fun z => by omega)]
theorem dp_i1 (u v : Nat) : (((2 * nI u) + 1) * 16) + (2 * nI v) = nI ((2 * u + 1) * 16 + 2 * v) := by
  show ((nI 2 * nI u + nI 1) * nI 16) + nI 2 * nI v = _
  rw [pk_mul, pk_mul, nI_add, pk_mul, nI_add]
theorem dp_i2 (v : Nat) : (((2 * nI v) * 16) + (2 * nI v)) + 1 = nI ((2 * v) * 16 + (2 * v + 1)) := by
  show ((nI 2 * nI v * nI 16) + nI 2 * nI v) + nI 1 = _
  rw [pk_mul, pk_mul, nI_add, nI_add, Nat.add_assoc]
variable {cf q st : Nat → Int32}
theorem dp_XloE {post : SX → Prop} (H : dp_ok n g) {u : Nat} (hu : u < n) (hsh : sh < 256) :
    ∀ (d v : Nat) (room : Nat → Int32), v + d = n →
      (∀ room', (∀ a b, a < 16 → b < 16 → room' (a * 16 + b) = if a = 2 * u + 1 ∧ b % 2 = 0 ∧ v ≤ b / 2 ∧ (g u).testBit (b / 2) = true ∧ sh.testBit (b / 2) = false then 9 else room (a * 16 + b)) →
        post (nI n, nI s, nI t, dp_nr g, room', cf, q, st)) →
      wX_layOutEdges_2 post (nI u) (nI sh) (nI n) (nI s) (nI t) (d + 1) (nI v) (dp_nr g) room cf q st := by
  have hn8 := H.2.1
  intro d
  induction d with
  | zero =>
    intro v room hv hp
    refine br_t (nI_le (by omega) (by omega)) (hp room (fun a b ha hb => ?_))
    rw [if_neg]
    rintro ⟨_, _, h1, h2, _⟩
    have := (H.2.2.2.2 u _ h2).2
    omega
  | succ d ih =>
    intro v room hv hp
    refine br_f (nI_ge (by omega) (by omega)) (dp_Xlinked (dp_ok8 H u) (by omega) (by omega) (fun e => ?_) (fun e => ?_))
    · refine br_f (by decide) ?_
      by_cases k : sh.testBit v = false
      · refine br_t ((dp_bit0 (by omega) (by omega)).mpr k) ?_
        rw [dp_i1]
        refine And.intro (vp_in_nI (by omega) (by omega)) (nm_e (nm_r (e' := nI (v + 1)) (nI_1 v) ?_))
        refine ih (v + 1) _ (by omega) (fun room' hr => hp room' (fun a b ha hb => ?_))
        rw [hr a b ha hb, nI_clamp (by omega)]
        by_cases c : a = 2 * u + 1 ∧ b % 2 = 0 ∧ v ≤ b / 2 ∧ (g u).testBit (b / 2) = true ∧ sh.testBit (b / 2) = false
        · rw [if_pos c]
          by_cases c2 : v + 1 ≤ b / 2
          · rw [if_pos ⟨c.1, c.2.1, c2, c.2.2.2⟩]
          · rw [if_neg (fun z => c2 z.2.2.1)]
            have e2 : a * 16 + b = (2 * u + 1) * 16 + 2 * v := by
              have := c.1
              have := c.2.1
              have := c.2.2.1
              omega
            rw [e2, pk_us]
        · rw [if_neg c, if_neg (fun z => c ⟨z.1, z.2.1, by omega, z.2.2.2⟩), pk_un]
          intro e2
          have a1 : a = 2 * u + 1 := by omega
          have b1 : b = 2 * v := by omega
          have b2 : b / 2 = v := by omega
          apply c
          rw [b2]
          exact ⟨a1, by omega, Nat.le_refl _, e, k⟩
      · refine br_f (fun z => k ((dp_bit0 (by omega) (by omega)).mp z)) (nm_r (e' := nI (v + 1)) (nI_1 v) ?_)
        refine ih (v + 1) _ (by omega) (fun room' hr => hp room' (fun a b ha hb => ?_))
        rw [hr a b ha hb]
        by_cases c : a = 2 * u + 1 ∧ b % 2 = 0 ∧ v ≤ b / 2 ∧ (g u).testBit (b / 2) = true ∧ sh.testBit (b / 2) = false
        · rw [if_pos c, if_pos]
          refine ⟨c.1, c.2.1, ?_, c.2.2.2⟩
          rcases Nat.lt_or_ge v (b / 2) with z | z
          · omega
          · have e2 : b / 2 = v := by have := c.2.2.1; omega
            rw [e2] at c
            exact absurd c.2.2.2.2 k
        · rw [if_neg c, if_neg (fun z => c ⟨z.1, z.2.1, by omega, z.2.2.2⟩)]
    · refine br_t rfl (nm_r (e' := nI (v + 1)) (nI_1 v) ?_)
      refine ih (v + 1) _ (by omega) (fun room' hr => hp room' (fun a b ha hb => ?_))
      rw [hr a b ha hb]
      by_cases c : a = 2 * u + 1 ∧ b % 2 = 0 ∧ v ≤ b / 2 ∧ (g u).testBit (b / 2) = true ∧ sh.testBit (b / 2) = false
      · rw [if_pos c, if_pos]
        refine ⟨c.1, c.2.1, ?_, c.2.2.2⟩
        rcases Nat.lt_or_ge v (b / 2) with z | z
        · omega
        · have e2 : b / 2 = v := by have := c.2.2.1; omega
          rw [e2] at c
          exact absurd c.2.2.2.1 (dp_bf.mp e)
      · rw [if_neg c, if_neg (fun z => c ⟨z.1, z.2.1, by omega, z.2.2.2⟩)]
theorem dp_Xlo99 {post : SX → Prop} {J : Int32 → Int32 → Int32 → Int32 → (Nat → Int32) → (Nat → Int32) → (Nat → Int32) → (Nat → Int32) → (Nat → Int32) → Prop} {x2 : Int32}
    (H : dp_ok n g) {v : Nat} (hv : v < n) (hsh : sh < 256) (val : Int32) (room : Nat → Int32)
    (hJ : ∀ room', (∀ a b, a < 16 → b < 16 → room' (a * 16 + b) = if a = 2 * v + 1 ∧ b % 2 = 0 ∧ (g v).testBit (b / 2) = true ∧ sh.testBit (b / 2) = false then 9 else if a = 2 * v ∧ b = 2 * v + 1 then val else room (a * 16 + b)) →
      J (nI (v + 1)) (nI n) (nI s) (nI t) (dp_nr g) room' cf q st) :
    wX_layOut_99 post J (nI sh) x2 (nI v) val ((((2 * nI v) * 16) + (2 * nI v)) + 1) (nI n) (nI s) (nI t) (dp_nr g) room cf q st := by
  have hn8 := H.2.1
  unfold wX_layOut_99
  rw [dp_i2]
  refine And.intro (vp_in_nI (by omega) (by omega)) (nm_e ?_)
  rw [nI_clamp (by omega)]
  refine ⟨n + 1, dp_XloE H hv hsh n 0 _ (by omega) ?_⟩
  intro room' hr
  refine nm_r (e' := nI (v + 1)) (nI_1 v) (hJ room' (fun a b ha hb => ?_))
  rw [hr a b ha hb]
  by_cases c : a = 2 * v + 1 ∧ b % 2 = 0 ∧ (g v).testBit (b / 2) = true ∧ sh.testBit (b / 2) = false
  · rw [if_pos c, if_pos ⟨c.1, c.2.1, Nat.zero_le _, c.2.2⟩]
  · rw [if_neg c, if_neg (fun z => c ⟨z.1, z.2.1, z.2.2.2⟩)]
    by_cases e : a = 2 * v ∧ b = 2 * v + 1
    · rw [if_pos e, e.1, e.2, pk_us]
    · rw [if_neg e, pk_un]
      intro z
      exact e ⟨by omega, by omega⟩
theorem dp_Xlo24 {post : SX → Prop} (X : dp_ctx n s t g sh) (hsh : sh < 256) (hfi : fi < 256)
    (hp : ∀ room, dp_RM room (dp_cp n s t g sh fi) → post (nI n, nI s, nI t, dp_nr g, room, cf, q, st)) :
    ∀ (d v : Nat) (room : Nat → Int32), v + d = n → (∀ a b, a < 16 → b < 16 → room (a * 16 + b) = nI (if a / 2 < v then dp_c0 n s t g sh fi a b else 0)) →
      wX_layOut_24 post (nI sh) (nI fi) (d + 1) (nI v) (nI n) (nI s) (nI t) (dp_nr g) room cf q st := by
  have X' := X
  obtain ⟨H, hs, ht, hne, hs0, ht0⟩ := X'
  have hn8 := H.2.1
  intro d
  induction d with
  | zero =>
    intro v room hv hr
    have hr' : ∀ a b, a < 16 → b < 16 → room (a * 16 + b) = nI (dp_c0 n s t g sh fi a b) := by
      intro a b ha hb
      rw [hr a b ha hb]
      by_cases c : a / 2 < v
      · rw [if_pos c]
      · rw [if_neg c, dp_c0_n (by omega)]
    refine br_t (nI_le (by omega) (by omega)) (dp_Xlinked (dp_ok8 H s) (by omega) (by omega) (fun e => ?_) (fun e => ?_))
    · refine br_f (by decide) ?_
      rw [dp_i1]
      refine And.intro (vp_in_nI (by omega) (by omega)) (nm_e (hp _ (fun a b ha hb => ?_)))
      rw [nI_clamp (by omega)]
      by_cases c : a = 2 * s + 1 ∧ b = 2 * t
      · rw [c.1, c.2, pk_us, dp_cp_st X]
        unfold dp_dr
        rw [e]
        rfl
      · rw [pk_un (fun z => c ⟨by omega, by omega⟩), dp_cp_c0 c, hr' a b ha hb]
    · refine br_t rfl (hp _ (fun a b ha hb => ?_))
      by_cases c : a = 2 * s + 1 ∧ b = 2 * t
      · rw [hr' a b ha hb, c.1, c.2, dp_cp_st X]
        have e1 : ¬ (2 * s + 1) % 2 = 0 := by omega
        have e2 : (2 * s + 1) / 2 = s := by omega
        have e3 : 2 * t / 2 = t := by omega
        unfold dp_c0 dp_dr
        rw [if_neg e1, e2, e3, e, if_neg (fun z => absurd z.2.2.2.2.2 (by decide))]
        rfl
      · rw [dp_cp_c0 c, hr' a b ha hb]
  | succ d ih =>
    intro v room hv hr
    refine br_f (nI_ge (by omega) (by omega)) ?_
    have stepv : ∀ val : Nat, sh.testBit v = false → val = (if v = s ∨ v = t ∨ fi.testBit v = true then 9 else 1) → ∀ room', (∀ a b, a < 16 → b < 16 → room' (a * 16 + b) = if a = 2 * v + 1 ∧ b % 2 = 0 ∧ (g v).testBit (b / 2) = true ∧ sh.testBit (b / 2) = false then 9 else if a = 2 * v ∧ b = 2 * v + 1 then nI val else room (a * 16 + b)) →
        wX_layOut_24 post (nI sh) (nI fi) (d + 1) (nI (v + 1)) (nI n) (nI s) (nI t) (dp_nr g) room' cf q st := by
      intro val hshv hval room' hr2
      refine ih (v + 1) room' (by omega) (fun a b ha hb => ?_)
      rw [hr2 a b ha hb]
      rcases Nat.lt_or_ge (a / 2) v with z | z
      · rw [if_neg (fun y => by omega), if_neg (fun y => by omega), hr a b ha hb, if_pos z, if_pos (by omega)]
      · rcases Nat.lt_or_ge v (a / 2) with z2 | z2
        · rw [if_neg (fun y => by omega), if_neg (fun y => by omega), hr a b ha hb, if_neg (by omega), if_neg (by omega)]
        · have ea : a / 2 = v := by omega
          rw [if_pos (by omega : a / 2 < v + 1)]
          unfold dp_c0
          rw [ea]
          by_cases ev : a % 2 = 0
          · rw [if_pos ev, if_neg (fun y => by omega)]
            by_cases eb : b = a + 1
            · rw [if_pos ⟨by omega, by omega⟩, if_pos ⟨eb, by omega, hshv⟩, hval]
            · rw [if_neg (fun y => eb (by omega)), if_neg (fun y => eb y.1), hr a b ha hb, if_neg (by omega)]
          · rw [if_neg ev]
            by_cases c : a = 2 * v + 1 ∧ b % 2 = 0 ∧ (g v).testBit (b / 2) = true ∧ sh.testBit (b / 2) = false
            · rw [if_pos c, if_pos ⟨c.2.1, by omega, (H.2.2.2.2 v _ c.2.2.1).2, hshv, c.2.2.2, c.2.2.1⟩]
              rfl
            · rw [if_neg c, if_neg (fun y => by omega), hr a b ha hb, if_neg (by omega), if_neg]
              rintro ⟨y1, y2, y3, y4, y5, y6⟩
              exact c ⟨by omega, y1, y6, y5⟩
    by_cases k : sh.testBit v = false
    · refine br_t ((dp_bit0 (by omega) (by omega)).mpr k) ?_
      have nine : (v = s ∨ v = t ∨ fi.testBit v = true) → wX_layOut_65 post (wX_layOut_24 post (nI sh) (nI fi) (d + 1)) (nI sh) (nI fi) (nI v) (nI n) (nI s) (nI t) (dp_nr g) room cf q st := by
        intro op
        unfold wX_layOut_65 wX_layOut_70
        refine br_f (by decide) (dp_Xlo99 H (by omega) hsh 9 room ?_)
        exact stepv 9 k (by rw [if_pos op])
      by_cases vs : v = s
      · exact br_t (by rw [vs]) (nine (Or.inl vs))
      · refine br_f (by rw [nI_eq (by omega) (by omega)]; exact vs) ?_
        by_cases vt : v = t
        · exact br_t (by rw [vt]) (nine (Or.inr (Or.inl vt)))
        · refine br_f (by rw [nI_eq (by omega) (by omega)]; exact vt) ?_
          by_cases vf : fi.testBit v = true
          · exact br_t ((dp_bit1 (by omega) (by omega)).mpr vf) (nine (Or.inr (Or.inr vf)))
          · refine br_f (fun z => vf ((dp_bit1 (by omega) (by omega)).mp z)) ?_
            unfold wX_layOut_70
            refine br_t rfl (dp_Xlo99 H (by omega) hsh 1 room ?_)
            refine stepv 1 k ?_
            rw [if_neg]
            rintro (y | y | y)
            · exact vs y
            · exact vt y
            · exact vf y
    · refine br_f (fun z => k ((dp_bit0 (by omega) (by omega)).mp z)) (nm_r (e' := nI (v + 1)) (nI_1 v) ?_)
      refine ih (v + 1) room (by omega) (fun a b ha hb => ?_)
      rw [hr a b ha hb]
      rcases Nat.lt_or_ge (a / 2) v with z | z
      · rw [if_pos z, if_pos (by omega)]
      · rw [if_neg (by omega)]
        rcases Nat.lt_or_ge v (a / 2) with z2 | z2
        · rw [if_neg (by omega)]
        · have ea : a / 2 = v := by omega
          rw [if_pos (by omega)]
          unfold dp_c0
          rw [ea]
          by_cases ev : a % 2 = 0
          · rw [if_pos ev, if_neg (fun y => k y.2.2)]
          · rw [if_neg ev, if_neg (fun y => k y.2.2.2.1)]
theorem dp_Xlo2 {post : SX → Prop} (X : dp_ctx n s t g sh) (hsh : sh < 256) (hfi : fi < 256)
    (hp : ∀ room, dp_RM room (dp_cp n s t g sh fi) → post (nI n, nI s, nI t, dp_nr g, room, cf, q, st)) :
    ∀ (d i : Nat) (room : Nat → Int32), i + d = 256 → (∀ j, j < i → room j = 0) →
      wX_layOut_2 post (nI sh) (nI fi) (nI n) (nI s) (nI t) (d + 1) (nI i) (dp_nr g) room cf q st := by
  intro d
  induction d with
  | zero =>
    intro i room hi hr
    refine br_t (nI_le (a := 256) (by omega) (by omega)) ⟨n + 1, dp_Xlo24 X hsh hfi hp n 0 room (by omega) (fun a b ha hb => ?_)⟩
    rw [hr _ (by omega), if_neg (by omega)]
    rfl
  | succ d ih =>
    intro i room hi hr
    refine br_f (nI_ge (b := 256) (by omega) (by omega)) (And.intro (vp_in_nI (by omega) (by omega)) (nm_e (nm_r (e' := nI (i + 1)) (nI_1 i) ?_)))
    refine ih (i + 1) _ (by omega) (fun j hj => ?_)
    rw [nI_clamp (by omega)]
    by_cases e : j = i
    · rw [e, pk_us]
    · rw [pk_un e]; exact hr j (by omega)
theorem dp_XlayOut {post : SX → Prop} (X : dp_ctx n s t g sh) (hsh : sh < 256) (hfi : fi < 256) {room : Nat → Int32}
    (hp : ∀ room, dp_RM room (dp_cp n s t g sh fi) → post (nI n, nI s, nI t, dp_nr g, room, cf, q, st)) :
    wpX_layOut post (nI n, nI s, nI t, dp_nr g, room, cf, q, st) (nI sh) (nI fi) :=
  ⟨257, dp_Xlo2 X hsh hfi hp 256 0 room rfl (fun j hj => absurd hj (by omega))⟩
end
end
section
/-! the component looks for a way -/
/-- the search: V the vertices seen, C whence, Q the queue, P the place in the queue, pt the number put -/
def dp_BF (R : Nat → Nat → Nat) (fr : Nat) (cf q : Nat → Int32) (V : Nat → Bool) (C Q P : Nat → Nat) (pt : Nat) : Prop :=
  (∀ b, b < 16 → V b = true → cf b = nI (C b) ∧ C b < 16 ∧ V (C b) = true ∧ P b < pt ∧ Q (P b) = b ∧ (b ≠ fr → 0 < R (C b) b ∧ P (C b) < P b)) ∧
  (∀ b, b < 16 → V b = false → cf b = -1) ∧
  (∀ j, j < pt → q j = nI (Q j) ∧ Q j < 16 ∧ V (Q j) = true ∧ P (Q j) = j) ∧
  dp_sm (fun b => (V b).toNat) 16 = pt ∧ V fr = true
def dp_BW (R : Nat → Nat → Nat) (fr : Nat) (cf : Nat → Int32) (V : Nat → Bool) (C P : Nat → Nat) : Prop :=
  (∀ b, b < 16 → V b = true → cf b = nI (C b) ∧ C b < 16 ∧ V (C b) = true ∧ P b < 16 ∧ (b ≠ fr → 0 < R (C b) b ∧ P (C b) < P b)) ∧
  (∀ b, b < 16 → V b = false → cf b = -1) ∧ V fr = true ∧
  (∀ a b, a < 16 → b < 16 → V a = true → 0 < R a b → V b = true)
def dp_up (f : Nat → Nat) (k x : Nat) : Nat → Nat := fun j => if j = k then x else f j
theorem dp_ups {f : Nat → Nat} {k x : Nat} : dp_up f k x k = x := if_pos rfl
theorem dp_upn {f : Nat → Nat} {k x j : Nat} (h : j ≠ k) : dp_up f k x j = f j := if_neg h
def dp_vb (V : Nat → Bool) (b : Nat) : Nat → Bool := fun x => if x = b then true else V x
theorem dp_vbs {V : Nat → Bool} {b : Nat} : dp_vb V b b = true := if_pos rfl
theorem dp_vbn {V : Nat → Bool} {b x : Nat} (h : x ≠ b) : dp_vb V b x = V x := if_neg h
theorem dp_BF_add {R : Nat → Nat → Nat} {fr : Nat} {cf q : Nat → Int32} {V : Nat → Bool} {C Q P : Nat → Nat} {pt a b : Nat}
    (h : dp_BF R fr cf q V C Q P pt) (ha : a < 16) (hb : b < 16) (Va : V a = true) (Vb : V b = false) (hR : 0 < R a b) :
    pt < 16 ∧ dp_BF R fr (upd cf b (nI a)) (upd q pt (nI b)) (dp_vb V b) (dp_up C b a) (dp_up Q pt b) (dp_up P b pt) (pt + 1) := by
  obtain ⟨h1, h2, h3, h4, h5⟩ := h
  have nb : ∀ x, V x = true → x ≠ b := fun x hx e => by rw [e, Vb] at hx; exact absurd hx (by decide)
  have hsum : dp_sm (fun x => (dp_vb V b x).toNat) 16 = pt + 1 := by
    have e := dp_smU (f := fun x => (dp_vb V b x).toNat) (h := fun x => (V x).toNat) (i := b) (fun j hj => by
      show (dp_vb V b j).toNat = (V j).toNat
      rw [dp_vbn hj]) hb
    have e1 : (dp_vb V b b).toNat = 1 := by rw [dp_vbs]; rfl
    have e2 : (V b).toNat = 0 := by rw [Vb]; rfl
    have e' : dp_sm (fun x => (dp_vb V b x).toNat) 16 + (V b).toNat = dp_sm (fun x => (V x).toNat) 16 + (dp_vb V b b).toNat := e
    rw [e1, e2, h4] at e'
    omega
  have hle : dp_sm (fun x => (dp_vb V b x).toNat) 16 ≤ 16 := by
    have e := dp_smL (f := fun x => (dp_vb V b x).toNat) (h := fun _ => 1) (N := 16) (fun i _ => dp_tn_le _)
    rw [dp_smK] at e
    exact e
  refine ⟨by omega, ?_, ?_, ?_, hsum, ?_⟩
  · intro x hx hV
    by_cases e : x = b
    · rw [e, pk_us, dp_ups, dp_ups, dp_ups, dp_vbn (nb a Va), dp_upn (nb a Va)]
      have z := h1 a ha Va
      exact ⟨rfl, ha, Va, by omega, rfl, fun _ => ⟨hR, z.2.2.2.1⟩⟩
    · rw [dp_vbn e] at hV
      obtain ⟨z1, z2, z3, z4, z5, z6⟩ := h1 x hx hV
      rw [pk_un e, dp_upn e, dp_upn e, dp_vbn (nb _ z3), dp_upn (nb _ z3), dp_upn (by omega : P x ≠ pt)]
      exact ⟨z1, z2, z3, by omega, z5, z6⟩
  · intro x hx hV
    by_cases e : x = b
    · rw [e, dp_vbs] at hV
      exact absurd hV (by decide)
    · rw [dp_vbn e] at hV
      rw [pk_un e]
      exact h2 x hx hV
  · intro j hj
    by_cases e : j = pt
    · rw [e, pk_us, dp_ups, dp_vbs, dp_ups]
      exact ⟨rfl, hb, rfl, rfl⟩
    · obtain ⟨z1, z2, z3, z4⟩ := h3 j (by omega)
      rw [pk_un e, dp_upn e, dp_vbn (nb _ z3), dp_upn (nb _ z3)]
      exact ⟨z1, z2, z3, z4⟩
  · rw [dp_vbn (nb fr h5)]
    exact h5
theorem dp_i3 (a b : Nat) : (nI a * 16) + nI b = nI (a * 16 + b) := by
  show nI a * nI 16 + nI b = _
  rw [pk_mul, nI_add]
theorem dp_i4 (n : Nat) : 2 * nI n = nI (2 * n) := pk_mul 2 n
section
variable {n s t fr : Nat} {nr room st : Nat → Int32} {R : Nat → Nat → Nat}
theorem dp_Xf81 {post : Int32 → SX → Prop} {J : Int32 → Int32 → (Nat → Int32) → (Nat → Int32) → (Nat → Int32) → (Nat → Int32) → (Nat → Int32) → Prop} {x2 : Int32}
    (hn : n ≤ 8) (hM : dp_RM room R) (hb18 : ∀ a b, a < 16 → b < 16 → R a b < 100) (hz : ∀ a b, a < 16 → b < 16 → 2 * n ≤ b → R a b = 0) {got a : Nat}
    (hJ : ∀ cf q V C Q P pt, dp_BF R fr cf q V C Q P pt → got < pt → (∀ j, j < got + 1 → ∀ b, b < 16 → 0 < R (Q j) b → V b = true) → J (nI pt) (nI (got + 1)) nr room cf q st) :
    ∀ (d b : Nat) (cf q : Nat → Int32) (V : Nat → Bool) (C Q P : Nat → Nat) (pt : Nat), b + d = 2 * n → dp_BF R fr cf q V C Q P pt → got < pt → Q got = a →
      (∀ j, j < got → ∀ b, b < 16 → 0 < R (Q j) b → V b = true) → (∀ b', b' < b → 0 < R a b' → V b' = true) →
      wX_findWay_81 post J x2 (nI got) (nI a) (nI n) (nI s) (nI t) (d + 1) (nI pt) (nI b) nr room cf q st := by
  intro d
  induction d with
  | zero =>
    intro b cf q V C Q P pt hbd hB hg hQ hcl hcl2
    refine br_t ?_ (nm_r (e' := nI (got + 1)) (nI_1 got) (hJ cf q V C Q P pt hB hg ?_))
    · have z := hB.2.2.2.1
      rw [dp_i4]
      exact nI_le (by omega) (by omega)
    · intro j hj x hx hr
      rcases Nat.lt_or_ge j got with z | z
      · exact hcl j z x hx hr
      · have e : j = got := by omega
        rw [e, hQ] at hr
        rcases Nat.lt_or_ge x b with y | y
        · exact hcl2 x y hr
        · have a16 := (hB.2.2.1 got hg).2.1
          rw [hQ] at a16
          rw [hz a x a16 hx (by omega)] at hr
          omega
  | succ d ih =>
    intro b cf q V C Q P pt hbd hB hg hQ hcl hcl2
    have a16 : a < 16 := by rw [← hQ]; exact (hB.2.2.1 got hg).2.1
    have Va : V a = true := by rw [← hQ]; exact (hB.2.2.1 got hg).2.2.1
    have b16 : b < 16 := by omega
    have r18 := hb18 a b a16 b16
    refine br_f (by rw [dp_i4]; exact nI_ge (by omega) (by omega)) ?_
    rw [dp_i3]
    refine And.intro (vp_in_nI (by omega) (by omega)) ?_
    rw [nI_clamp (by omega : a * 16 + b < 2 ^ 31), hM a b a16 b16]
    rcases Nat.eq_zero_or_pos (R a b) with r0 | r0
    · refine br_t (by rw [r0]; decide) (nm_r (e' := nI (b + 1)) (nI_1 b) ?_)
      refine ih (b + 1) cf q V C Q P pt (by omega) hB hg hQ hcl (fun b' hb' hr => ?_)
      rcases Nat.lt_or_ge b' b with z | z
      · exact hcl2 b' z hr
      · have e : b' = b := by omega
        rw [e, r0] at hr
        omega
    · refine br_f (nI_nle r0 (by omega)) (And.intro (vp_in_nI (by omega) (by omega)) ?_)
      rw [nI_clamp (by omega : b < 2 ^ 31)]
      cases Vb : V b
      · have ecf : cf b = -1 := hB.2.1 b b16 Vb
        obtain ⟨p16, hB'⟩ := dp_BF_add hB a16 b16 Va Vb r0
        refine br_f (by rw [ecf]; decide) (And.intro (vp_in_nI (by omega) (by omega)) (nm_e (And.intro (vp_in_nI (by omega) (by omega)) (nm_e (nm_r (e' := nI (pt + 1)) (nI_1 pt) (nm_r (e' := nI (b + 1)) (nI_1 b) ?_))))))
        rw [nI_clamp (by omega : pt < 2 ^ 31)]
        have mono : ∀ x, V x = true → dp_vb V b x = true := by
          intro x hx
          by_cases e : x = b
          · rw [e, dp_vbs]
          · rw [dp_vbn e]; exact hx
        refine ih (b + 1) _ _ _ _ _ _ (pt + 1) (by omega) hB' (by omega) ?_ ?_ ?_
        · rw [dp_upn (by omega)]; exact hQ
        · intro j hj x hx hr
          rw [dp_upn (by omega)] at hr
          exact mono x (hcl j hj x hx hr)
        · intro b' hb' hr
          by_cases e : b' = b
          · rw [e, dp_vbs]
          · exact mono b' (hcl2 b' (by omega) hr)
      · have z := hB.1 b b16 Vb
        refine br_t ?_ (nm_r (e' := nI (b + 1)) (nI_1 b) ?_)
        · rw [z.1]
          exact nI_pos' (by omega)
        · refine ih (b + 1) cf q V C Q P pt (by omega) hB hg hQ hcl (fun b' hb' hr => ?_)
          by_cases e : b' = b
          · rw [e]; exact Vb
          · exact hcl2 b' (by omega) hr
theorem dp_Xf56 {post : Int32 → SX → Prop} (hn : n ≤ 8) (ht : t < n) (hM : dp_RM room R) (hb18 : ∀ a b, a < 16 → b < 16 → R a b < 100) (hz : ∀ a b, a < 16 → b < 16 → 2 * n ≤ b → R a b = 0)
    (hp : ∀ cf q V C P, dp_BW R fr cf V C P → post (nI (V (2 * t)).toNat) (nI n, nI s, nI t, nr, room, cf, q, st)) :
    ∀ (d got : Nat) (cf q : Nat → Int32) (V : Nat → Bool) (C Q P : Nat → Nat) (pt : Nat), got + d = 16 → dp_BF R fr cf q V C Q P pt → got ≤ pt →
      (∀ j, j < got → ∀ b, b < 16 → 0 < R (Q j) b → V b = true) →
      wX_findWay_56 post (nI (2 * t)) (nI n) (nI s) (nI t) (d + 1) (nI pt) (nI got) nr room cf q st := by
  intro d
  have fin : ∀ (got : Nat) (cf q : Nat → Int32) (V : Nat → Bool) (C Q P : Nat → Nat) (pt : Nat), dp_BF R fr cf q V C Q P pt → got = pt → pt ≤ 16 →
      (∀ j, j < got → ∀ b, b < 16 → 0 < R (Q j) b → V b = true) → wX_findWay_150 post (nI (2 * t)) (nI n) (nI s) (nI t) nr room cf q st := by
    intro got cf q V C Q P pt hB hg h16 hcl
    have hBW : dp_BW R fr cf V C P := by
      refine ⟨fun b hb hV => ?_, hB.2.1, hB.2.2.2.2, fun a b ha hb hV hr => ?_⟩
      · obtain ⟨z1, z2, z3, z4, z5, z6⟩ := hB.1 b hb hV
        exact ⟨z1, z2, z3, by omega, z6⟩
      · obtain ⟨z1, z2, z3, z4, z5, z6⟩ := hB.1 a ha hV
        exact hcl (P a) (by omega) b hb (by rw [z5]; exact hr)
    have hpp := hp cf q V C P hBW
    unfold wX_findWay_150
    refine And.intro (vp_in_nI (by omega) (by omega)) ?_
    rw [nI_clamp (by omega)]
    cases Vt : V (2 * t)
    · rw [Vt] at hpp
      refine br_t (by rw [hBW.2.1 _ (by omega) Vt]; decide) hpp
    · rw [Vt] at hpp
      have z := hBW.1 _ (by omega) Vt
      refine br_f (by rw [z.1]; exact nI_pos (by omega)) hpp
  have le16 : ∀ {cf q : Nat → Int32} {V : Nat → Bool} {C Q P : Nat → Nat} {pt : Nat}, dp_BF R fr cf q V C Q P pt → pt ≤ 16 := by
    intro cf q V C Q P pt hB
    rw [← hB.2.2.2.1]
    have e := dp_smL (f := fun x => (V x).toNat) (h := fun _ => 1) (N := 16) (fun i _ => dp_tn_le _)
    rw [dp_smK] at e
    exact e
  induction d with
  | zero =>
    intro got cf q V C Q P pt hd hB hg hcl
    have p16 := le16 hB
    exact br_t (nI_le (by omega) (by omega)) (fin got cf q V C Q P pt hB (by omega) p16 hcl)
  | succ d ih =>
    intro got cf q V C Q P pt hd hB hg hcl
    have p16 := le16 hB
    rcases Nat.lt_or_ge got pt with z | z
    · refine br_f (nI_ge z (by omega)) (br_f (nI_ge (b := 16) (by omega) (by omega)) (And.intro (vp_in_nI (by omega) (by omega)) (nm_r (e' := nI (Q got)) ?_ ⟨2 * n + 1, ?_⟩)))
      · rw [nI_clamp (by omega)]
        exact (hB.2.2.1 got z).1
      · refine dp_Xf81 (fr := fr) hn hM hb18 hz ?_ (2 * n) 0 cf q V C Q P pt (by omega) hB z rfl hcl (fun b' hb' => absurd hb' (by omega))
        intro cf' q' V' C' Q' P' pt' hB' hg' hcl'
        exact ih (got + 1) cf' q' V' C' Q' P' pt' (by omega) hB' (by omega) hcl'
    · exact br_t (nI_le z (by omega)) (fin got cf q V C Q P pt hB (by omega) p16 hcl)
theorem dp_Xf2 {post : Int32 → SX → Prop} (hn : n ≤ 8) (hs : s < n) (ht : t < n) (hM : dp_RM room R) (hb18 : ∀ a b, a < 16 → b < 16 → R a b < 100) (hz : ∀ a b, a < 16 → b < 16 → 2 * n ≤ b → R a b = 0)
    (hp : ∀ cf q V C P, dp_BW R (2 * s + 1) cf V C P → post (nI (V (2 * t)).toNat) (nI n, nI s, nI t, nr, room, cf, q, st)) :
    ∀ (d i : Nat) (cf q : Nat → Int32), i + d = 16 → (∀ j, j < i → cf j = -1) → wX_findWay_2 post (nI n) (nI s) (nI t) (d + 1) (nI i) nr room cf q st := by
  intro d
  induction d with
  | zero =>
    intro i cf q hi hc
    have e1 : (2 * nI s) + 1 = nI (2 * s + 1) := by rw [dp_i4]; exact nI_1 _
    refine br_t (nI_le (a := 16) (by omega) (by omega)) (nm_r (e' := nI (2 * s + 1)) e1 (nm_r (e' := nI (2 * t)) (dp_i4 t) (And.intro (vp_in_nI (by omega) (by omega)) (nm_e (nm_e ⟨17, ?_⟩)))))
    rw [nI_clamp (by omega)]
    refine dp_Xf56 (fr := 2 * s + 1) hn ht hM hb18 hz hp 16 0 _ _ (fun x => decide (x = 2 * s + 1)) (fun _ => 2 * s + 1) (fun _ => 2 * s + 1) (fun _ => 0) 1 (by omega) ?_ (by omega) (fun j hj => absurd hj (by omega))
    refine ⟨?_, ?_, ?_, ?_, ?_⟩
    · intro b hb hV
      have e : b = 2 * s + 1 := of_decide_eq_true hV
      rw [e, pk_us]
      have h16 : 2 * s + 1 < 16 := by omega
      exact ⟨rfl, h16, decide_eq_true rfl, Nat.zero_lt_one, rfl, fun z => absurd rfl z⟩
    · intro b hb hV
      have e : b ≠ 2 * s + 1 := of_decide_eq_false hV
      rw [pk_un e]
      exact hc b (by omega)
    · intro j hj
      have e : j = 0 := by omega
      rw [e, pk_us]
      have h16 : 2 * s + 1 < 16 := by omega
      exact ⟨rfl, h16, decide_eq_true rfl, rfl⟩
    · have e := dp_sm1 (f := fun b => (decide (b = 2 * s + 1)).toNat) (i := 2 * s + 1) (N := 16) (by omega) (fun j hj => by
        show (decide (j = 2 * s + 1)).toNat = 0
        rw [decide_eq_false hj]; rfl)
      rw [e]
      show (decide (2 * s + 1 = 2 * s + 1)).toNat = 1
      rw [decide_eq_true rfl]; rfl
    · exact decide_eq_true rfl
  | succ d ih =>
    intro i cf q hi hc
    refine br_f (nI_ge (b := 16) (by omega) (by omega)) (And.intro (vp_in_nI (by omega) (by omega)) (nm_e (nm_r (e' := nI (i + 1)) (nI_1 i) ?_)))
    refine ih (i + 1) _ q (by omega) (fun j hj => ?_)
    rw [nI_clamp (by omega)]
    by_cases e : j = i
    · rw [e, pk_us]
    · rw [pk_un e]; exact hc j (by omega)
theorem dp_XfindWay {post : Int32 → SX → Prop} {cf q : Nat → Int32} (hn : n ≤ 8) (hs : s < n) (ht : t < n) (hM : dp_RM room R) (hb18 : ∀ a b, a < 16 → b < 16 → R a b < 100) (hz : ∀ a b, a < 16 → b < 16 → 2 * n ≤ b → R a b = 0)
    (hp : ∀ cf q V C P, dp_BW R (2 * s + 1) cf V C P → post (nI (V (2 * t)).toNat) (nI n, nI s, nI t, nr, room, cf, q, st)) :
    wpX_findWay post (nI n, nI s, nI t, nr, room, cf, q, st) :=
  ⟨17, dp_Xf2 hn hs ht hM hb18 hz hp 16 0 cf q rfl (fun j hj => absurd hj (by omega))⟩
end
end
section
/-! the component pushes, and the whole flow -/
def dp_pu (R : Nat → Nat → Nat) (a b : Nat) : Nat → Nat → Nat := fun x y => if x = a ∧ y = b then R x y - 1 else if x = b ∧ y = a then R x y + 1 else R x y
theorem dp_pu1 {R : Nat → Nat → Nat} {a b : Nat} : dp_pu R a b a b = R a b - 1 := if_pos ⟨rfl, rfl⟩
theorem dp_pu2 {R : Nat → Nat → Nat} {a b : Nat} (h : a ≠ b) : dp_pu R a b b a = R b a + 1 := by
  unfold dp_pu
  rw [if_neg (fun z => h z.2), if_pos ⟨rfl, rfl⟩]
theorem dp_pu3 {R : Nat → Nat → Nat} {a b x y : Nat} (h1 : ¬ (x = a ∧ y = b)) (h2 : ¬ (x = b ∧ y = a)) : dp_pu R a b x y = R x y := by
  unfold dp_pu
  rw [if_neg h1, if_neg h2]
/-- between R0 and R one unit has been pushed from b to the target -/
def dp_PI (R0 R : Nat → Nat → Nat) (fr to b : Nat) : Prop :=
  (∀ x y, x < 16 → y < 16 → R x y + R y x = R0 x y + R0 y x) ∧
  (∀ x, x < 16 → dp_sm (R x) 16 + (if x = b then 1 else 0) = dp_sm (R0 x) 16 + (if x = to then 1 else 0)) ∧
  (∀ x, x < 16 → R0 x fr ≤ R x fr)
theorem dp_PI_step {R0 R : Nat → Nat → Nat} {fr to a b : Nat} (h : dp_PI R0 R fr to b) (hab : a ≠ b) (hb : b ≠ fr) (a16 : a < 16) (b16 : b < 16) (hR : 0 < R a b) :
    dp_PI R0 (dp_pu R a b) fr to a := by
  obtain ⟨h1, h2, h3⟩ := h
  refine ⟨fun x y hx hy => ?_, fun x hx => ?_, fun x hx => ?_⟩
  · have z := h1 x y hx hy
    by_cases e1 : x = a ∧ y = b
    · rw [e1.1, e1.2] at z ⊢
      rw [dp_pu1, dp_pu2 hab]
      omega
    · by_cases e2 : x = b ∧ y = a
      · rw [e2.1, e2.2] at z ⊢
        rw [dp_pu1, dp_pu2 hab]
        omega
      · rw [dp_pu3 e1 e2, dp_pu3 (fun q => e2 ⟨q.2, q.1⟩) (fun q => e1 ⟨q.2, q.1⟩)]
        exact z
  · have z := h2 x hx
    by_cases e1 : x = a
    · have u := dp_smU (f := dp_pu R a b a) (h := R a) (i := b) (fun j hj => dp_pu3 (fun q => hj q.2) (fun q => hab q.1)) b16
      rw [dp_pu1] at u
      rw [if_neg (fun q => hab (e1.symm.trans q))] at z
      rw [if_pos e1, e1]
      rw [e1] at z
      omega
    · rw [if_neg e1]
      by_cases e2 : x = b
      · have u := dp_smU (f := dp_pu R a b b) (h := R b) (i := a) (fun j hj => dp_pu3 (fun q => hab q.1.symm) (fun q => hj q.2)) a16
        rw [dp_pu2 hab] at u
        rw [if_pos e2] at z
        rw [e2]
        rw [e2] at z
        omega
      · rw [if_neg e2] at z
        have u : dp_sm (dp_pu R a b x) 16 = dp_sm (R x) 16 := dp_smC (fun j _ => dp_pu3 (fun q => e1 q.1) (fun q => e2 q.1))
        omega
  · have z := h3 x hx
    by_cases e2 : x = b ∧ fr = a
    · rw [e2.1, e2.2, dp_pu2 hab]
      rw [e2.1, e2.2] at z
      omega
    · rw [dp_pu3 (fun q => hb q.2.symm) e2]
      exact z
theorem dp_RM_pu {room : Nat → Int32} {R : Nat → Nat → Nat} {a b : Nat} (hM : dp_RM room R) (hab : a ≠ b) (a16 : a < 16) (b16 : b < 16) (hR : 0 < R a b) :
    dp_RM (upd (upd room (a * 16 + b) (room (a * 16 + b) - 1)) (b * 16 + a) ((upd room (a * 16 + b) (room (a * 16 + b) - 1)) (b * 16 + a) + 1)) (dp_pu R a b) := by
  intro x y hx hy
  by_cases e2 : x = b ∧ y = a
  · rw [e2.1, e2.2, pk_us, pk_un (fun z => hab (by omega)), hM b a b16 a16, dp_pu2 hab]
    exact nI_1 _
  · rw [pk_un (fun z => e2 ⟨by omega, by omega⟩)]
    by_cases e1 : x = a ∧ y = b
    · rw [e1.1, e1.2, pk_us, hM a b a16 b16, dp_pu1]
      exact pk_sub hR
    · rw [pk_un (fun z => e1 ⟨by omega, by omega⟩), dp_pu3 e1 e2]
      exact hM x y hx hy
section
variable {n s t fr to : Nat} {nr st cf q : Nat → Int32} {R0 : Nat → Nat → Nat} {V : Nat → Bool} {C P : Nat → Nat}
theorem dp_Xp18 {post : SX → Prop} (hfr : fr < 16) (hB : dp_BW R0 fr cf V C P)
    (hp : ∀ room R, dp_RM room R → dp_PI R0 R fr to fr → post (nI n, nI s, nI t, nr, room, cf, q, st)) :
    ∀ (d i b : Nat) (room : Nat → Int32) (R : Nat → Nat → Nat), i + d = 16 → dp_RM room R → b < 16 → V b = true → P b + i < 16 →
      (∀ x, x < 16 → V x = true → x ≠ fr → P x ≤ P b → 0 < R (C x) x) → dp_PI R0 R fr to b →
      wX_push_18 post (nI fr) (nI n) (nI s) (nI t) (d + 1) (nI b) (nI i) nr room cf q st := by
  intro d
  induction d with
  | zero => intro i b room R hi hM b16 Vb hP hE hI; omega
  | succ d ih =>
    intro i b room R hi hM b16 Vb hP hE hI
    refine br_f (nI_ge (b := 16) (by omega) (by omega)) ?_
    by_cases e : b = fr
    · rw [e] at hI
      exact br_t (by rw [e]) (hp room R hM hI)
    · obtain ⟨z1, z2, z3, z4, z5⟩ := hB.1 b b16 Vb
      obtain ⟨y1, y2⟩ := z5 e
      have hRp := hE b b16 Vb e (Nat.le_refl _)
      have hab : C b ≠ b := fun q => by rw [q] at y2; omega
      refine br_f (by rw [nI_eq (by omega) (by omega)]; exact e) (And.intro (vp_in_nI (by omega) (by omega)) (nm_r (e' := nI (C b)) ?_ ?_))
      · rw [nI_clamp (by omega)]
        exact z1
      · rw [dp_i3 (C b) b, dp_i3 b (C b)]
        have i1 : vp_in (nI (C b * 16 + b)) 256 := vp_in_nI (by omega) (by omega)
        have i2 : vp_in (nI (b * 16 + C b)) 256 := vp_in_nI (by omega) (by omega)
        refine ⟨i1, i1, nm_e ⟨i2, i2, nm_e (nm_r (e' := nI (i + 1)) (nI_1 i) ?_)⟩⟩
        rw [nI_clamp (by omega : C b * 16 + b < 2 ^ 31), nI_clamp (by omega : b * 16 + C b < 2 ^ 31)]
        refine ih (i + 1) (C b) _ (dp_pu R (C b) b) (by omega) (dp_RM_pu hM hab z2 b16 hRp) z2 z3 (by omega) ?_ (dp_PI_step hI hab e z2 b16 hRp)
        intro x hx Vx xf hPx
        have xb : x ≠ b := fun q => by rw [q] at hPx; omega
        have w := hE x hx Vx xf (by omega)
        by_cases e3 : C x = b ∧ x = C b
        · rw [e3.1, e3.2, dp_pu2 hab]
          omega
        · rw [dp_pu3 (fun q => xb q.2) e3]
          exact w
theorem dp_Xpush {post : SX → Prop} {room : Nat → Int32} (hs : s < 8) (ht : t < 8) (hM : dp_RM room R0) (hB : dp_BW R0 (2 * s + 1) cf V C P) (hV : V (2 * t) = true)
    (hp : ∀ room R, dp_RM room R → dp_PI R0 R (2 * s + 1) (2 * t) (2 * s + 1) → post (nI n, nI s, nI t, nr, room, cf, q, st)) :
    wpX_push post (nI n, nI s, nI t, nr, room, cf, q, st) := by
  have e1 : (2 * nI s) + 1 = nI (2 * s + 1) := by rw [dp_i4]; exact nI_1 _
  refine nm_r (e' := nI (2 * t)) (dp_i4 t) (nm_r (e' := nI (2 * s + 1)) e1 ⟨17, ?_⟩)
  refine dp_Xp18 (by omega) hB hp 16 0 (2 * t) room R0 rfl hM (by omega) hV ?_ ?_ ?_
  · have := (hB.1 (2 * t) (by omega) hV).2.2.2.1
    omega
  · intro x hx Vx xf _
    exact ((hB.1 x hx Vx).2.2.2.2 xf).1
  · exact ⟨fun x y _ _ => rfl, fun x _ => rfl, fun x _ => Nat.le_refl _⟩
end
theorem dp_FI_next {n s t sh fi k : Nat} {g : Nat → Nat} {R R' : Nat → Nat → Nat} (hF : dp_FI n s t g sh fi R k) (hI : dp_PI R R' (2 * s + 1) (2 * t) (2 * s + 1)) :
    dp_FI n s t g sh fi R' (k + 1) := by
  obtain ⟨f1, f2, f3⟩ := hF
  obtain ⟨p1, p2, p3⟩ := hI
  refine ⟨fun a b ha hb => by rw [p1 a b ha hb]; exact f1 a b ha hb, fun a ha => ?_, fun a ha => Nat.le_trans (f3 a ha) (p3 a ha)⟩
  have x := f2 a ha
  have y := p2 a ha
  by_cases e1 : a = 2 * s + 1
  · have e2 : ¬ a = 2 * t := by omega
    rw [if_pos e1, if_neg e2] at x y ⊢
    omega
  · by_cases e2 : a = 2 * t
    · rw [if_neg e1, if_pos e2] at x y ⊢
      omega
    · rw [if_neg e1, if_neg e2] at x y ⊢
      omega
theorem dp_cp9 (n s t : Nat) (g : Nat → Nat) (sh fi a b : Nat) : dp_cp n s t g sh fi a b ≤ 9 := by
  unfold dp_cp
  by_cases h : a % 2 = 0
  · rw [if_pos h]
    by_cases h2 : b = a + 1 ∧ a / 2 < n ∧ sh.testBit (a / 2) = false
    · rw [if_pos h2]
      by_cases h3 : a / 2 = s ∨ a / 2 = t ∨ fi.testBit (a / 2) = true
      · rw [if_pos h3]; omega
      · rw [if_neg h3]; omega
    · rw [if_neg h2]; omega
  · rw [if_neg h]
    by_cases h2 : b % 2 = 0 ∧ a / 2 < n ∧ b / 2 < n ∧ sh.testBit (a / 2) = false ∧ sh.testBit (b / 2) = false ∧ (g (a / 2)).testBit (b / 2) = true
    · rw [if_pos h2]
      by_cases h3 : a / 2 = s ∧ b / 2 = t
      · rw [if_pos h3]; omega
      · rw [if_neg h3]; omega
    · rw [if_neg h2]; omega
theorem dp_cpz {n s t : Nat} {g : Nat → Nat} {sh fi a b : Nat} (hb : 2 * n ≤ b) : dp_cp n s t g sh fi a b = 0 ∧ dp_cp n s t g sh fi b a = 0 := by
  unfold dp_cp
  constructor
  · by_cases h : a % 2 = 0
    · rw [if_pos h, if_neg (fun z => by omega)]
    · rw [if_neg h, if_neg (fun z => by omega)]
  · by_cases h : b % 2 = 0
    · rw [if_pos h, if_neg (fun z => by omega)]
    · rw [if_neg h, if_neg (fun z => by omega)]
section
variable {n s t sh fi : Nat} {g : Nat → Nat} {st : Nat → Int32}
theorem dp_FI_b {R : Nat → Nat → Nat} {k : Nat} (hF : dp_FI n s t g sh fi R k) : ∀ a b, a < 16 → b < 16 → R a b < 100 := by
  intro a b ha hb
  have x := hF.1 a b ha hb
  have y := dp_cp9 n s t g sh fi a b
  have z := dp_cp9 n s t g sh fi b a
  omega
theorem dp_FI_z {R : Nat → Nat → Nat} {k : Nat} (hF : dp_FI n s t g sh fi R k) : ∀ a b, a < 16 → b < 16 → 2 * n ≤ b → R a b = 0 := by
  intro a b ha hb h
  have x := hF.1 a b ha hb
  have y := dp_cpz (s := s) (t := t) (g := g) (sh := sh) (fi := fi) (a := a) h
  omega
theorem dp_FSof {R : Nat → Nat → Nat} {k : Nat} (X : dp_ctx n s t g sh) (hF : dp_FI n s t g sh fi R k) (hk : k ≤ 9)
    (hc : k < 9 → ∃ C, dp_NC n s t g sh fi C ∧ dp_cd C + dp_dr g s t ≤ k) : dp_FS n s t g sh fi k :=
  ⟨hk, hc, fun C hC => dp_cut2 X hF hC, fun e => by subst e; exact dp_dec X hF⟩
theorem dp_Xf17 {post : Int32 → SX → Prop} (X : dp_ctx n s t g sh)
    (hp : ∀ k room cf q, dp_FS n s t g sh fi k → post (nI k) (nI n, nI s, nI t, dp_nr g, room, cf, q, st)) :
    ∀ (d k : Nat) (room cf q : Nat → Int32) (R : Nat → Nat → Nat) (V : Nat → Bool) (C P : Nat → Nat), k + d = 9 → dp_RM room R → dp_FI n s t g sh fi R k → dp_BW R (2 * s + 1) cf V C P →
      wX_flow_17 post (d + 1) (nI k) (nI (V (2 * t)).toNat) (nI k) (nI n) (nI s) (nI t) (dp_nr g) room cf q st := by
  have hn8 := X.1.2.1
  have hs := X.2.1
  have ht := X.2.2.1
  intro d
  induction d with
  | zero =>
    intro k room cf q R V C P hk hM hF hB
    refine br_t (nI_le (a := 9) (by omega) (by omega)) (hp k room cf q (dp_FSof X hF (by omega) (fun z => by omega)))
  | succ d ih =>
    intro k room cf q R V C P hk hM hF hB
    refine br_f (nI_ge (b := 9) (by omega) (by omega)) ?_
    cases Vt : V (2 * t)
    · refine br_t rfl (hp k room cf q (dp_FSof X hF (by omega) (fun z => ?_)))
      exact dp_cut1 X hF z V hB.2.2.1 Vt hB.2.2.2
    · refine br_f (by decide) (dp_Xpush (by omega) (by omega) hM hB Vt ?_)
      intro room' R' hM' hI
      have hF' := dp_FI_next hF hI
      refine nm_r (e' := nI (k + 1)) (nI_1 k) (dp_XfindWay hn8 hs ht hM' (dp_FI_b hF') (dp_FI_z hF') ?_)
      intro cf' q' V' C' P' hB'
      exact nm_r (e' := nI (k + 1)) (nI_1 k) (ih (k + 1) room' cf' q' R' V' C' P' (by omega) hM' hF' hB')
theorem dp_Xflow {post : Int32 → SX → Prop} {room cf q : Nat → Int32} (X : dp_ctx n s t g sh) (hsh : sh < 256) (hfi : fi < 256)
    (hp : ∀ k room cf q, dp_FS n s t g sh fi k → post (nI k) (nI n, nI s, nI t, dp_nr g, room, cf, q, st)) :
    wpX_flow post (nI n, nI s, nI t, dp_nr g, room, cf, q, st) (nI sh) (nI fi) := by
  have hn8 := X.1.2.1
  have hs := X.2.1
  have ht := X.2.2.1
  unfold wpX_flow
  dsimp only
  refine dp_XlayOut X hsh hfi ?_
  intro room' hM
  have hF : dp_FI n s t g sh fi (dp_cp n s t g sh fi) 0 := by
    refine ⟨fun _ _ _ _ => rfl, fun a _ => ?_, fun _ _ => Nat.le_refl _⟩
    rw [ite_self, ite_self]
  refine dp_XfindWay hn8 hs ht hM (dp_FI_b hF) (dp_FI_z hF) ?_
  intro cf' q' V C P hB
  exact ⟨10, dp_Xf17 X hp 9 0 room' cf' q' _ V C P rfl hM hF hB⟩
/-- the flow without firm vertices: the greatest number of disjoint ways -/
theorem dp_Xflow0 {post : Int32 → SX → Prop} {room cf q : Nat → Int32} (X : dp_ctx n s t g sh) (hsh : sh < 256)
    (hp : ∀ room cf q, post (nI (dp_dr g s t + dp_mx g s t (dp_dn (dp_in n s t) sh))) (nI n, nI s, nI t, dp_nr g, room, cf, q, st)) :
    wpX_flow post (nI n, nI s, nI t, dp_nr g, room, cf, q, st) (nI sh) 0 := by
  refine dp_Xflow (fi := 0) X hsh (by omega) ?_
  intro k room cf q hF
  rw [dp_FS0 X hF]
  exact hp room cf q
end
end
section
/-! the relation, and the simple methods -/
/-- one graph, one pair of ends; all else is scratch -/
def i_Rel (k : Nat) (u : SX) (v : SY) : Prop := ∃ (n s t : Nat) (g : Nat → Nat) (rm cf q st wh mo : Nat → Int32),
  dp_ok n g ∧ s < n ∧ t < n ∧ s ≠ t ∧ u = (nI n, nI s, nI t, dp_nr g, rm, cf, q, st) ∧ v = (nI n, nI s, nI t, dp_nr g, wh, mo)
theorem dp_rel {k n s t : Nat} {g : Nat → Nat} {rm cf q st wh mo : Nat → Int32} (H : dp_ok n g) (hs : s < n) (ht : t < n) (hne : s ≠ t) :
    i_Rel k (nI n, nI s, nI t, dp_nr g, rm, cf, q, st) (nI n, nI s, nI t, dp_nr g, wh, mo) := ⟨n, s, t, g, rm, cf, q, st, wh, mo, H, hs, ht, hne, rfl, rfl⟩
theorem i_up {k : Nat} {u : SX} {v : SY} (h : i_Rel k u v) : i_Rel (k + 4) u v := h
theorem dp_ok0 {n : Nat} (h3 : 3 ≤ n) (h8 : n ≤ 8) : dp_ok n (fun _ => 0) :=
  ⟨h3, h8, fun _ _ => by rw [Nat.zero_testBit, Nat.zero_testBit], fun _ => Nat.zero_testBit _, fun _ _ h => by rw [Nat.zero_testBit] at h; exact absurd h (by decide)⟩
theorem dp_X63 {post : SX → Prop} {n : Nat} {s : Int32} {f1 f2 : Int32} {a b c d e : Nat → Int32} (h : 1 ≤ n) (hp : post (nI n, s, nI (n - 1), a, b, c, d, e)) : wX_init_63 post (nI n) f1 s f2 a b c d e :=
  nm_r (e' := nI (n - 1)) (pk_sub h) hp
theorem dp_Y52 {post : SY → Prop} {n : Nat} {s : Int32} {f1 f2 : Int32} {a b c : Nat → Int32} (h : 1 ≤ n) (hp : post (nI n, s, nI (n - 1), a, b, c)) : wY_init_52 post (nI n) f1 s f2 a b c :=
  nm_r (e' := nI (n - 1)) (pk_sub h) hp
theorem i_vc0 (k0 : Int32) : wpX_init (fun u => wpY_init (fun v => i_Rel 1 u v) k0) k0 := by
  have fin : ∀ n : Nat, 3 ≤ n → n ≤ 8 → ∀ rm cf q st wh mo : Nat → Int32, i_Rel 1 (nI n, 0, nI (n - 1), (fun _ => 0), rm, cf, q, st) (nI n, 0, nI (n - 1), (fun _ => 0), wh, mo) :=
    fun n h3 h8 rm cf q st wh mo => dp_rel (s := 0) (t := n - 1) (g := fun _ => 0) (dp_ok0 h3 h8) (by omega) (by omega) (by omega)
  by_cases h3 : 3 ≤ k0
  · by_cases h8 : k0 ≤ 8
    · have h0 : ¬ k0 < 0 := by
        rw [Int32.lt_iff_toInt_lt]
        rw [Int32.le_iff_toInt_le] at h3
        have e3 : (3 : Int32).toInt = 3 := by decide
        have e0 : (0 : Int32).toInt = 0 := by decide
        omega
      obtain ⟨j, hj, e⟩ := nI_of h0
      subst e
      have j3 : 3 ≤ j := (nI_leI (a := 3) (by omega) hj).mp h3
      have j8 : j ≤ 8 := (nI_leI (b := 8) hj (by omega)).mp h8
      exact br_t h3 (br_t h8 (dp_X63 (by omega) (br_t h3 (br_t h8 (dp_Y52 (by omega) (fin j j3 j8 _ _ _ _ _ _))))))
    · exact br_t h3 (br_f h8 (dp_X63 (n := 8) (by omega) (br_t h3 (br_f h8 (dp_Y52 (n := 8) (by omega) (fin 8 (by omega) (by omega) _ _ _ _ _ _))))))
  · exact br_f h3 (br_t (by decide) (dp_X63 (n := 3) (by omega) (br_f h3 (dp_Y52 (n := 3) (by omega) (fin 3 (by omega) (by omega) _ _ _ _ _ _)))))
theorem i_vc_vertices {k : Nat} {u : SX} {v : SY} (I : i_Rel k u v) (hk : k + 4 ≤ 2049) : wpX_vertices (fun r => wpY_vertices (fun r' => r' = r ∧ i_Rel (k + 4) u v) v) u := by
  have I2 := i_up I
  obtain ⟨n, s, t, g, rm, cf, q, st, wh, mo, H, hs, ht, hne, rfl, rfl⟩ := I
  exact ⟨rfl, I2⟩
section
variable {n : Nat} {fs ft : Int32} {nr rm cf q st wh mo : Nat → Int32}
def dp_bad (n : Nat) (x : Int32) : Prop := x < 0 ∨ nI n ≤ x
theorem dp_ix (x : Int32) (h8 : n ≤ 8) : dp_bad n x ∨ ∃ j : Nat, j < n ∧ x = nI j := by
  rcases pk_ix x (n := n) (by omega) with h | h | h
  · exact Or.inl (Or.inl h)
  · exact Or.inl (Or.inr h)
  · exact Or.inr h
theorem dp_Xbad1 {post : Int32 → Prop} {x : Int32} (h : dp_bad n x) (hp : post 1) : wpX_bad post (nI n, fs, ft, nr, rm, cf, q, st) x := by
  unfold wpX_bad
  dsimp only
  by_cases h0 : x < 0
  · exact br_t h0 hp
  · rcases h with z | z
    · exact absurd z h0
    · exact br_f h0 (br_f (Int32.not_lt.mpr z) hp)
theorem dp_Xbad0 {post : Int32 → Prop} {j : Nat} (h8 : n ≤ 8) (h : j < n) (hp : post 0) : wpX_bad post (nI n, fs, ft, nr, rm, cf, q, st) (nI j) :=
  br_f (nI_pos (by omega)) (br_t (nI_lt h (by omega)) hp)
theorem dp_Yv0 {post : Int32 → Prop} {x : Int32} (h : dp_bad n x) (hp : post 0) : wpY_isVertex post (nI n, fs, ft, nr, wh, mo) x := by
  unfold wpY_isVertex
  dsimp only
  by_cases h0 : x < 0
  · exact br_t h0 hp
  · rcases h with z | z
    · exact absurd z h0
    · exact br_f h0 (br_t z hp)
theorem dp_Yv1 {post : Int32 → Prop} {j : Nat} (h8 : n ≤ 8) (h : j < n) (hp : post 1) : wpY_isVertex post (nI n, fs, ft, nr, wh, mo) (nI j) :=
  br_f (nI_pos (by omega)) (br_f (nI_ge h (by omega)) hp)
theorem dp_Xbp0 {post : Int32 → Prop} {i j : Nat} (h8 : n ≤ 8) (hi : i < n) (hj : j < n) (h : i ≠ j) (hp : post 0) : wpX_badPair post (nI n, fs, ft, nr, rm, cf, q, st) (nI i) (nI j) := by
  unfold wpX_badPair
  dsimp only
  refine dp_Xbad0 h8 hi ?_
  refine br_t rfl ?_
  refine dp_Xbad0 h8 hj ?_
  refine br_t rfl (br_f ?_ hp)
  rw [nI_eq (by omega) (by omega)]
  exact h
theorem dp_Xbp1 {post : Int32 → Prop} {x y : Int32} (h8 : n ≤ 8) (h : dp_bad n x ∨ dp_bad n y ∨ x = y) (hp : post 1) : wpX_badPair post (nI n, fs, ft, nr, rm, cf, q, st) x y := by
  unfold wpX_badPair
  dsimp only
  rcases dp_ix x h8 with hx | ⟨i, hi, rfl⟩
  · refine dp_Xbad1 hx ?_
    exact br_f (by decide) hp
  · refine dp_Xbad0 h8 hi ?_
    refine br_t rfl ?_
    rcases dp_ix y h8 with hy | ⟨j, hj, rfl⟩
    · refine dp_Xbad1 hy ?_
      exact br_f (by decide) hp
    · refine dp_Xbad0 h8 hj ?_
      refine br_t rfl (br_t ?_ hp)
      have nb : ∀ i, i < n → ¬ dp_bad n (nI i) := by
        intro i hi z
        rcases z with z | z
        · exact nI_pos (by omega) z
        · exact nI_ge hi (by omega) z
      rcases h with z | z | z
      · exact absurd z (nb i hi)
      · exact absurd z (nb j hj)
      · exact z
end
def dp_ed (g : Nat → Nat) (i j : Nat) (x : Int32) : Nat → Nat := if x = 0 then dp_rm g i j else dp_ad g i j
theorem i_vc_edge {k : Nat} {u : SX} {v : SY} (I : i_Rel k u v) (hk : k + 4 ≤ 2049) (v1 : Int32) (v2 : Int32) (v3 : Int32) : wpX_edge (fun r u' => wpY_edge (fun r' v' => r' = r ∧ i_Rel (k + 4) u' v') v v1 v2 v3) u v1 v2 v3 := by
  obtain ⟨n, s, t, g, rm, cf, q, st, wh, mo, H, hs, ht, hne, rfl, rfl⟩ := I
  have h8 := H.2.1
  have bad : (dp_bad n v1 ∨ dp_bad n v2 ∨ v1 = v2) → wpX_edge (fun r u' => wpY_edge (fun r' v' => r' = r ∧ i_Rel (k + 4) u' v') (nI n, nI s, nI t, dp_nr g, wh, mo) v1 v2 v3) (nI n, nI s, nI t, dp_nr g, rm, cf, q, st) v1 v2 v3 := by
    intro hb
    have R := dp_rel (k := k + 4) (rm := rm) (cf := cf) (q := q) (st := st) (wh := wh) (mo := mo) H hs ht hne
    unfold wpX_edge
    dsimp only
    refine dp_Xbp1 h8 hb ?_
    refine br_f (by decide) ?_
    unfold wpY_edge
    dsimp only
    rcases dp_ix v1 h8 with hx | ⟨i, hi, rfl⟩
    · refine dp_Yv0 hx ?_
      exact br_t rfl ⟨rfl, R⟩
    · refine dp_Yv1 h8 hi ?_
      refine br_f (by decide) ?_
      rcases dp_ix v2 h8 with hx | ⟨j, hj, rfl⟩
      · refine dp_Yv0 hx ?_
        exact br_t rfl ⟨rfl, R⟩
      · refine dp_Yv1 h8 hj ?_
        refine br_f (by decide) (br_t ?_ ⟨rfl, R⟩)
        have nb : ∀ i, i < n → ¬ dp_bad n (nI i) := by
          intro i hi z
          rcases z with z | z
          · exact nI_pos (by omega) z
          · exact nI_ge hi (by omega) z
        rcases hb with z | z | z
        · exact absurd z (nb i hi)
        · exact absurd z (nb j hj)
        · exact z
  rcases dp_ix v1 h8 with hx | ⟨i, hi, rfl⟩
  · exact bad (Or.inl hx)
  · rcases dp_ix v2 h8 with hx | ⟨j, hj, rfl⟩
    · exact bad (Or.inr (Or.inl hx))
    · by_cases e : i = j
      · exact bad (Or.inr (Or.inr (by rw [e])))
      · have Yp : ∀ {post : SY → Prop}, post (nI n, nI s, nI t, dp_nr (dp_ed g i j v3), wh, mo) → (((v3 = 0 → wpY_put post (nI n, nI s, nI t, dp_nr g, wh, mo) (nI i) (nI j) 0)) ∧ (¬ v3 = 0 → wpY_put post (nI n, nI s, nI t, dp_nr g, wh, mo) (nI i) (nI j) 1)) := by
          intro post hp
          constructor
          · intro z
            unfold dp_ed at hp
            rw [if_pos z] at hp
            exact dp_Yput0 (by omega) (by omega) e hp
          · intro z
            unfold dp_ed at hp
            rw [if_neg z] at hp
            exact dp_Yput1 (by decide) (by omega) (by omega) e hp
        have Xp : ∀ {post : SX → Prop}, post (nI n, nI s, nI t, dp_nr (dp_ed g i j v3), rm, cf, q, st) → (((v3 = 0 → wpX_unlink post (nI n, nI s, nI t, dp_nr g, rm, cf, q, st) (nI i) (nI j))) ∧ (¬ v3 = 0 → wpX_link post (nI n, nI s, nI t, dp_nr g, rm, cf, q, st) (nI i) (nI j))) := by
          intro post hp
          constructor
          · intro z
            unfold dp_ed at hp
            rw [if_pos z] at hp
            exact dp_Xunlink (by omega) (by omega) e hp
          · intro z
            unfold dp_ed at hp
            rw [if_neg z] at hp
            exact dp_Xlink (by omega) (by omega) e hp
        have H2 : dp_ok n (dp_ed g i j v3) := by
          unfold dp_ed
          by_cases z : v3 = 0
          · rw [if_pos z]; exact dp_rm_ok H e
          · rw [if_neg z]; exact dp_ad_ok H hi hj e
        have R := dp_rel (k := k + 4) (rm := rm) (cf := cf) (q := q) (st := st) (wh := wh) (mo := mo) H2 hs ht hne
        unfold wpX_edge
        dsimp only
        refine dp_Xbp0 h8 hi hj e ?_
        refine br_t rfl (dp_Xlinked (dp_ok8 H i) (by omega) (by omega) (fun lk => ?_) (fun lk => ?_))
        · refine br_f (by decide) ?_
          unfold wX_edge_25
          refine Xp ?_
          dsimp only
          unfold wpY_edge
          dsimp only
          refine dp_Yv1 h8 hi ?_
          refine br_f (by decide) ?_
          refine dp_Yv1 h8 hj ?_
          refine br_f (by decide) (br_f (by rw [nI_eq (by omega) (by omega)]; exact e) (And.intro (vp_in_nI (by omega) (by omega)) ?_))
          rw [dp_nrE g (by omega)]
          refine dp_Yhas (by have := dp_ok8 H i; omega) (by omega) (fun _ => ?_) (fun z => absurd lk (dp_bf.mp z))
          refine br_f (by decide) ?_
          unfold wY_edge_42 wY_edge_56
          exact Yp ⟨rfl, R⟩
        · refine br_t rfl ?_
          unfold wX_edge_25
          refine Xp ?_
          dsimp only
          unfold wpY_edge
          dsimp only
          refine dp_Yv1 h8 hi ?_
          refine br_f (by decide) ?_
          refine dp_Yv1 h8 hj ?_
          refine br_f (by decide) (br_f (by rw [nI_eq (by omega) (by omega)]; exact e) (And.intro (vp_in_nI (by omega) (by omega)) ?_))
          rw [dp_nrE g (by omega)]
          refine dp_Yhas (by have := dp_ok8 H i; omega) (by omega) (fun z => absurd z (dp_bf.mp lk)) (fun _ => ?_)
          refine br_t rfl ?_
          unfold wY_edge_42 wY_edge_56
          exact Yp ⟨rfl, R⟩
theorem i_vc_joined {k : Nat} {u : SX} {v : SY} (I : i_Rel k u v) (hk : k + 4 ≤ 2049) (v1 : Int32) (v2 : Int32) : wpX_joined (fun r => wpY_joined (fun r' => r' = r ∧ i_Rel (k + 4) u v) v v1 v2) u v1 v2 := by
  have I2 := i_up I
  obtain ⟨n, s, t, g, rm, cf, q, st, wh, mo, H, hs, ht, hne, rfl, rfl⟩ := I
  have h8 := H.2.1
  unfold wpX_joined wpY_joined
  dsimp only
  rcases dp_ix v1 h8 with hx | ⟨i, hi, rfl⟩
  · refine dp_Xbp1 h8 (Or.inl hx) ?_
    refine br_f (by decide) ?_
    refine dp_Yv0 hx ?_
    exact br_t rfl ⟨rfl, I2⟩
  · rcases dp_ix v2 h8 with hx | ⟨j, hj, rfl⟩
    · refine dp_Xbp1 h8 (Or.inr (Or.inl hx)) ?_
      refine br_f (by decide) ?_
      refine dp_Yv1 h8 hi ?_
      refine br_f (by decide) ?_
      refine dp_Yv0 hx ?_
      exact br_t rfl ⟨rfl, I2⟩
    · by_cases e : i = j
      · subst e
        refine dp_Xbp1 h8 (Or.inr (Or.inr rfl)) ?_
        refine br_f (by decide) ?_
        refine dp_Yv1 h8 hi ?_
        refine br_f (by decide) ?_
        refine dp_Yv1 h8 hi ?_
        refine br_f (by decide) (And.intro (vp_in_nI (by omega) (by omega)) ?_)
        rw [dp_nrE g (by omega)]
        refine dp_Yhas (by have := dp_ok8 H i; omega) (by omega) (fun z => absurd z (dp_bf.mp (H.2.2.2.1 i))) (fun _ => ?_)
        exact br_t rfl ⟨rfl, I2⟩
      · refine dp_Xbp0 h8 hi hj e ?_
        refine br_t rfl (dp_Xlinked (dp_ok8 H i) (by omega) (by omega) (fun lk => ?_) (fun lk => ?_))
        · refine And.intro rfl ?_
          refine dp_Yv1 h8 hi ?_
          refine br_f (by decide) ?_
          refine dp_Yv1 h8 hj ?_
          refine br_f (by decide) (And.intro (vp_in_nI (by omega) (by omega)) ?_)
          rw [dp_nrE g (by omega)]
          refine dp_Yhas (by have := dp_ok8 H i; omega) (by omega) (fun _ => ?_) (fun z => absurd lk (dp_bf.mp z))
          exact br_f (by decide) ⟨rfl, I2⟩
        · refine And.intro rfl ?_
          refine dp_Yv1 h8 hi ?_
          refine br_f (by decide) ?_
          refine dp_Yv1 h8 hj ?_
          refine br_f (by decide) (And.intro (vp_in_nI (by omega) (by omega)) ?_)
          rw [dp_nrE g (by omega)]
          refine dp_Yhas (by have := dp_ok8 H i; omega) (by omega) (fun z => absurd z (dp_bf.mp lk)) (fun _ => ?_)
          exact br_t rfl ⟨rfl, I2⟩
theorem i_vc_ends {k : Nat} {u : SX} {v : SY} (I : i_Rel k u v) (hk : k + 4 ≤ 2049) (v1 : Int32) (v2 : Int32) : wpX_ends (fun r u' => wpY_ends (fun r' v' => r' = r ∧ i_Rel (k + 4) u' v') v v1 v2) u v1 v2 := by
  have I2 := i_up I
  obtain ⟨n, s, t, g, rm, cf, q, st, wh, mo, H, hs, ht, hne, rfl, rfl⟩ := I
  have h8 := H.2.1
  unfold wpX_ends wpY_ends
  dsimp only
  rcases dp_ix v1 h8 with hx | ⟨i, hi, rfl⟩
  · refine dp_Xbp1 h8 (Or.inl hx) ?_
    refine br_f (by decide) ?_
    refine dp_Yv0 hx ?_
    exact br_t rfl ⟨rfl, I2⟩
  · rcases dp_ix v2 h8 with hx | ⟨j, hj, rfl⟩
    · refine dp_Xbp1 h8 (Or.inr (Or.inl hx)) ?_
      refine br_f (by decide) ?_
      refine dp_Yv1 h8 hi ?_
      refine br_f (by decide) ?_
      refine dp_Yv0 hx ?_
      exact br_t rfl ⟨rfl, I2⟩
    · by_cases e : i = j
      · subst e
        refine dp_Xbp1 h8 (Or.inr (Or.inr rfl)) ?_
        refine br_f (by decide) ?_
        refine dp_Yv1 h8 hi ?_
        refine br_f (by decide) ?_
        refine dp_Yv1 h8 hi ?_
        exact br_f (by decide) (br_t rfl ⟨rfl, I2⟩)
      · refine dp_Xbp0 h8 hi hj e ?_
        refine br_t rfl ?_
        refine dp_Yv1 h8 hi ?_
        refine br_f (by decide) ?_
        refine dp_Yv1 h8 hj ?_
        exact br_f (by decide) (br_f (by rw [nI_eq (by omega) (by omega)]; exact e) ⟨rfl, dp_rel H hi hj e⟩)
theorem dp_dn0 (a : Nat) : dp_dn a 0 = a := by
  apply dp_ext
  intro i
  rw [dp_dnI, Nat.zero_testBit]
  exact ⟨fun z => z.1, fun z => ⟨z, rfl⟩⟩
theorem dp_ctx0 {n s t : Nat} {g : Nat → Nat} (H : dp_ok n g) (hs : s < n) (ht : t < n) (hne : s ≠ t) : dp_ctx n s t g 0 := ⟨H, hs, ht, hne, Nat.zero_testBit _, Nat.zero_testBit _⟩
theorem dp_Xflow00 {n s t : Nat} {g : Nat → Nat} {post : Int32 → SX → Prop} {room cf q st : Nat → Int32} (H : dp_ok n g) (hs : s < n) (ht : t < n) (hne : s ≠ t)
    (hp : ∀ room cf q, post (nI (dp_dr g s t + dp_mx g s t (dp_in n s t))) (nI n, nI s, nI t, dp_nr g, room, cf, q, st)) :
    wpX_flow post (nI n, nI s, nI t, dp_nr g, room, cf, q, st) 0 0 := by
  refine dp_Xflow0 (sh := 0) (dp_ctx0 H hs ht hne) (by omega) ?_
  rw [dp_dn0]
  exact hp
theorem i_vc_paths {k : Nat} {u : SX} {v : SY} (I : i_Rel k u v) (hk : k + 4 ≤ 2049) : wpX_paths (fun r u' => wpY_paths (fun r' v' => r' = r ∧ i_Rel (k + 4) u' v') v) u := by
  obtain ⟨n, s, t, g, rm, cf, q, st, wh, mo, H, hs, ht, hne, rfl, rfl⟩ := I
  unfold wpX_paths
  dsimp only
  refine dp_Xflow00 H hs ht hne (fun room cf q => ?_)
  refine dp_Ypaths H hs ht (fun wh mo => ?_)
  exact ⟨rfl, dp_rel H hs ht hne⟩
end
section
/-! cutSize, cutWith, firstCut -/
section
variable {n s t : Nat} {g : Nat → Nat}
theorem dp_IC_all (e : (g s).testBit t = false) : dp_IC n s t g (dp_in n s t) := by
  refine ⟨e, dp_sb_rf _, ?_⟩
  have z := (dp_NC_all (n := n) (s := s) (t := t) (sh := 0) (g := g)).2
  rw [dp_dn0] at z
  exact z
/-- a cut of the graph without sh, and sh, are a cut of the graph -/
theorem dp_NC_IC {sh fi C : Nat} (e : (g s).testBit t = false) (hsh : dp_sb sh (dp_in n s t)) (h : dp_NC n s t g sh fi C) : dp_IC n s t g (sh ||| C) ∧ dp_cd (sh ||| C) = dp_cd sh + dp_cd C := by
  obtain ⟨h1, h2⟩ := h
  refine ⟨⟨e, fun i z => ?_, fun L => h2 (dp_Ld_m (fun i z => ?_) L)⟩, dp_cdA (fun i z => ?_)⟩
  · rcases dp_orI.mp z with y | y
    · exact hsh i y
    · exact (dp_dnI.mp (dp_dnI.mp (h1 i y)).1).1
  · rw [dp_dnI, dp_bf, dp_orI] at z
    rw [dp_dnI, dp_dnI]
    exact ⟨⟨z.1, dp_bf.mpr (fun y => z.2 (Or.inl y))⟩, dp_bf.mpr (fun y => z.2 (Or.inr y))⟩
  · rw [dp_bf]
    intro y
    exact dp_bf.mp (dp_dnI.mp (dp_dnI.mp (h1 i y)).1).2 z
/-- .. and back -/
theorem dp_IC_NC {sh fi D : Nat} (h : dp_IC n s t g D) (hsh : dp_sb sh D) (hfi : ∀ i, fi.testBit i = true → D.testBit i = false) :
    dp_NC n s t g sh fi (dp_dn D sh) ∧ dp_cd D = dp_cd sh + dp_cd (dp_dn D sh) := by
  obtain ⟨_, h1, h2⟩ := h
  have eD : D = sh ||| dp_dn D sh := by
    apply dp_ext
    intro i
    rw [dp_orI, dp_dnI]
    constructor
    · intro z
      by_cases y : sh.testBit i = true
      · exact Or.inl y
      · exact Or.inr ⟨z, dp_bf.mpr y⟩
    · rintro (z | z)
      · exact hsh i z
      · exact z.1
  refine ⟨⟨fun i z => ?_, fun L => h2 (dp_Ld_m (fun i z => ?_) L)⟩, ?_⟩
  · obtain ⟨a, b⟩ := dp_dnI.mp z
    rw [dp_dnI, dp_dnI]
    exact ⟨⟨h1 i a, b⟩, dp_bf.mpr (fun y => dp_bf.mp (hfi i y) a)⟩
  · have z1 := dp_dnI.mp z
    have z2 := dp_dnI.mp z1.1
    have z3 := dp_bf.mp z1.2
    rw [dp_dnI] at z3
    rw [dp_dnI]
    exact ⟨z2.1, dp_bf.mpr (fun y => z3 ⟨y, z2.2⟩)⟩
  · have c := dp_cdA (a := sh) (b := dp_dn D sh) (fun i z => by
      rw [dp_bf, dp_dnI]
      exact fun y => dp_bf.mp y.2 z)
    rw [← eD] at c
    exact c
theorem dp_neg4 {j : Nat} (h : j < 256) : ¬ nI j = -4 := by
  intro e
  have a : (nI j).toInt = (-4 : Int32).toInt := by rw [e]
  rw [nI_toInt (by omega)] at a
  have b : (-4 : Int32).toInt = -4 := by decide
  omega
theorem dp_drf (e : (g s).testBit t = false) : dp_dr g s t = 0 := by unfold dp_dr; rw [e]; rfl
theorem dp_sb0 (C : Nat) : dp_sb 0 C := fun i z => by rw [Nat.zero_testBit] at z; exact absurd z (by decide)
end
theorem i_vc_cutSize {k : Nat} {u : SX} {v : SY} (I : i_Rel k u v) (hk : k + 4 ≤ 2049) : wpX_cutSize (fun r u' => wpY_cutSize (fun r' => r' = r ∧ i_Rel (k + 4) u' v) v) u := by
  obtain ⟨n, s, t, g, rm, cf, q, st, wh, mo, H, hs, ht, hne, rfl, rfl⟩ := I
  have h8 := H.2.1
  have i8 : dp_in n s t < 256 := dp_in8 h8
  unfold wpX_cutSize wpY_cutSize
  dsimp only
  refine dp_Xlinked (dp_ok8 H s) (by omega) (by omega) (fun lk => ?_) (fun lk => ?_)
  · refine br_f (by decide) ?_
    refine dp_Yleast (w := 0) H hs ht (by omega) (fun _ => ?_) (fun B _ hB _ => absurd lk (dp_bf.mp hB.1))
    exact br_t rfl ⟨rfl, dp_rel H hs ht hne⟩
  · refine br_t rfl ?_
    refine dp_Xflow (sh := 0) (fi := 0) (dp_ctx0 H hs ht hne) (by omega) (by omega) ?_
    intro m rm cf q hF
    have dr0 := dp_drf lk
    obtain ⟨f1, f2, f3, f4⟩ := hF
    refine dp_Yleast (w := 0) H hs ht (by omega) (fun hno => absurd (dp_IC_all lk) (hno _ (dp_sb0 _))) (fun B _ hB hmin => ?_)
    have B8 : B < 256 := dp_sb256 hB.2.1 i8
    refine br_f (dp_neg4 B8) ?_
    refine dp_Ysize B8 ?_
    have l1 := dp_IC_NC (sh := 0) (fi := 0) hB (dp_sb0 _) (fun i z => by rw [Nat.zero_testBit] at z; exact absurd z (by decide))
    have l2 := f3 _ l1.1
    have l3 := l1.2
    have c0 := dp_cd0
    have k6 : dp_cd B ≤ 6 := Nat.le_trans (dp_cdM hB.2.1) (dp_in_cd (by omega) (by omega) hne)
    obtain ⟨C, hC, hk⟩ := f2 (by omega)
    obtain ⟨m1, m2⟩ := dp_NC_IC (sh := 0) lk (dp_sb0 _) hC
    have m3 := (hmin _ (dp_sb0 _) m1).1
    have e : dp_cd B = m := by omega
    exact ⟨by rw [e], dp_rel H hs ht hne⟩
theorem i_vc_cutWith {k : Nat} {u : SX} {v : SY} (I : i_Rel k u v) (hk : k + 4 ≤ 2049) (v1 : Int32) : wpX_cutWith (fun r u' => wpY_cutWith (fun r' => r' = r ∧ i_Rel (k + 4) u' v) v v1) u v1 := by
  obtain ⟨n, s, t, g, rm, cf, q, st, wh, mo, H, hs, ht, hne, rfl, rfl⟩ := I
  have h8 := H.2.1
  have i8 : dp_in n s t < 256 := dp_in8 h8
  unfold wpX_cutWith wpY_cutWith
  dsimp only
  rcases dp_ix v1 h8 with hx | ⟨j, hj, rfl⟩
  · refine dp_Xbad1 hx ?_
    refine br_f (by decide) ?_
    refine dp_Yv0 hx ?_
    exact br_t rfl ⟨rfl, dp_rel H hs ht hne⟩
  · have p8 : 2 ^ j < 256 := by
      have : 2 ^ j < 2 ^ 8 := Nat.pow_lt_pow_right (by omega) (by omega)
      omega
    refine dp_Xbad0 h8 hj ?_
    refine br_t rfl ?_
    rw [dp_shl j (by omega)]
    have none : ∀ {post : Int32 → Prop}, (∀ C, dp_sb (2 ^ j) C → ¬ dp_IC n s t g C) → post (-4) → wpY_isVertex (fun r_1 => (((r_1 = 0 → (post (-1))) ∧ (¬ r_1 = 0 → (wpY_leastCut (fun r_9 => (((r_9 = (-4) → (post (-4))) ∧ (¬ r_9 = (-4) → (wpY_sizeOf (fun r_17 => (post r_17)) (nI n, nI s, nI t, dp_nr g, wh, mo) r_9))))) (nI n, nI s, nI t, dp_nr g, wh, mo) (nI (2 ^ j))))))) (nI n, nI s, nI t, dp_nr g, wh, mo) (nI j) := by
      intro post hno hp
      refine dp_Yv1 h8 hj ?_
      refine br_f (by decide) ?_
      refine dp_Yleast H hs ht p8 (fun _ => ?_) (fun B h1 h2 _ => absurd h2 (hno B h1))
      exact br_t rfl hp
    by_cases js : j = s
    · refine br_t (by rw [js]) ?_
      refine none (post := fun r' => r' = -4 ∧ i_Rel (k + 4) (nI n, nI s, nI t, dp_nr g, rm, cf, q, st) (nI n, nI s, nI t, dp_nr g, wh, mo)) (fun C h1 h2 => ?_) ⟨rfl, dp_rel H hs ht hne⟩
      exact (dp_inI.mp (h2.2.1 j (h1 j (dp_pwI.mpr rfl)))).2.1 js
    · refine br_f (by rw [nI_eq (by omega) (by omega)]; exact js) ?_
      by_cases jt : j = t
      · refine br_t (by rw [jt]) ?_
        refine none (post := fun r' => r' = -4 ∧ i_Rel (k + 4) (nI n, nI s, nI t, dp_nr g, rm, cf, q, st) (nI n, nI s, nI t, dp_nr g, wh, mo)) (fun C h1 h2 => ?_) ⟨rfl, dp_rel H hs ht hne⟩
        exact (dp_inI.mp (h2.2.1 j (h1 j (dp_pwI.mpr rfl)))).2.2 jt
      · refine br_f (by rw [nI_eq (by omega) (by omega)]; exact jt) ?_
        refine dp_Xlinked (dp_ok8 H s) (by omega) (by omega) (fun lk => ?_) (fun lk => ?_)
        · refine br_f (by decide) ?_
          exact none (post := fun r' => r' = -4 ∧ i_Rel (k + 4) (nI n, nI s, nI t, dp_nr g, rm, cf, q, st) (nI n, nI s, nI t, dp_nr g, wh, mo)) (fun C h1 h2 => absurd lk (dp_bf.mp h2.1)) ⟨rfl, dp_rel H hs ht hne⟩
        · refine br_t rfl ?_
          have ctx : dp_ctx n s t g (2 ^ j) := ⟨H, hs, ht, hne, dp_bf.mpr (fun z => js (dp_pwI.mp z).symm), dp_bf.mpr (fun z => jt (dp_pwI.mp z).symm)⟩
          refine dp_Xflow (sh := 2 ^ j) (fi := 0) ctx p8 (by omega) ?_
          intro m rm cf q hF
          have dr0 := dp_drf lk
          obtain ⟨f1, f2, f3, f4⟩ := hF
          have jin : dp_sb (2 ^ j) (dp_in n s t) := fun i z => by
            rw [dp_pwI.mp z, dp_inI]
            exact ⟨hj, js, jt⟩
          refine dp_Yv1 h8 hj ?_
          refine br_f (by decide) ?_
          refine dp_Yleast H hs ht p8 (fun hno => absurd (dp_IC_all lk) (hno _ jin)) (fun B hw hB hmin => ?_)
          have B8 : B < 256 := dp_sb256 hB.2.1 i8
          refine br_f (dp_neg4 B8) ?_
          refine dp_Ysize B8 ?_
          have l1 := dp_IC_NC (fi := 0) hB hw (fun i z => by rw [Nat.zero_testBit] at z; exact absurd z (by decide))
          have l2 := f3 _ l1.1
          have l3 := l1.2
          have c1 := dp_cdP j (by omega)
          have k6 : dp_cd B ≤ 6 := Nat.le_trans (dp_cdM hB.2.1) (dp_in_cd (by omega) (by omega) hne)
          obtain ⟨C, hC, hk⟩ := f2 (by omega)
          obtain ⟨m1, m2⟩ := dp_NC_IC lk jin hC
          have m3 := (hmin _ (fun i z => dp_orI.mpr (Or.inl z)) m1).1
          have e : dp_cd B = m + 1 := by omega
          refine ⟨?_, dp_rel H hs ht hne⟩
          rw [e]
          exact (nI_1 m).symm
/-! firstCut -/
theorem dp_divbit (D v : Nat) : D / 2 ^ v = 2 * (D / 2 ^ (v + 1)) + (D.testBit v).toNat := by
  rw [Nat.toNat_testBit, Nat.pow_succ, ← Nat.div_div_eq_div_mul]
  omega
/-- what the component knows when the vertices from v on have been looked at -/
def dp_FC (n s t : Nat) (g : Nat → Nat) (K v left sh fi : Nat) : Prop :=
  dp_sb sh (dp_in n s t) ∧ (∀ i, fi.testBit i = true → v ≤ i) ∧ (∀ i, sh.testBit i = true → v ≤ i) ∧
  (∀ i, fi.testBit i = true → i < n) ∧
  (∀ i, fi.testBit i = true → sh.testBit i = false) ∧
  (∀ i, v ≤ i → (dp_in n s t).testBit i = true → sh.testBit i = false → fi.testBit i = true) ∧
  left + dp_cd sh = K ∧
  (∃ D, dp_IC n s t g D ∧ dp_cd D = K ∧ (∀ i, v ≤ i → D.testBit i = sh.testBit i)) ∧
  (∀ D, dp_IC n s t g D → dp_cd D = K → sh / 2 ^ v ≤ D / 2 ^ v)
section
variable {n s t : Nat} {g : Nat → Nat}
theorem dp_FC_skip {K v left sh fi : Nat} (h : dp_FC n s t g K (v + 1) left sh fi) (hv : v = s ∨ v = t) : dp_FC n s t g K v left sh fi := by
  obtain ⟨a1, a2, a3, a4, a5, a6, a7, ⟨D, d1, d2, d3⟩, a9⟩ := h
  have ninv : ¬ (dp_in n s t).testBit v = true := fun z => by
    have y := dp_inI.mp z
    rcases hv with q | q
    · exact y.2.1 q
    · exact y.2.2 q
  have nsh : sh.testBit v = false := dp_bf.mpr (fun z => ninv (a1 v z))
  have nD : ∀ D, dp_IC n s t g D → D.testBit v = false := fun D h => dp_bf.mpr (fun z => ninv (h.2.1 v z))
  refine ⟨a1, fun i z => by have := a2 i z; omega, fun i z => by have := a3 i z; omega, a4, a5, fun i hi z y => ?_, a7, ⟨D, d1, d2, fun i hi => ?_⟩, fun D h1 h2 => ?_⟩
  · by_cases e : i = v
    · rw [e] at z
      exact absurd z ninv
    · exact a6 i (by omega) z y
  · by_cases e : i = v
    · rw [e, nsh, nD D d1]
    · exact d3 i (by omega)
  · rw [dp_divbit sh v, dp_divbit D v, nsh, nD D h1]
    have := a9 D h1 h2
    omega
theorem dp_FC_firm {K v left sh fi C : Nat} (hv : v < n) (h : dp_FC n s t g K (v + 1) left sh fi) (hin : (dp_in n s t).testBit v = true)
    (lk : (g s).testBit t = false) (hC : dp_NC n s t g sh (fi ||| 2 ^ v) C) (hc : dp_cd C = left) : dp_FC n s t g K v left sh (fi ||| 2 ^ v) := by
  obtain ⟨a1, a2, a3, a4, a5, a6, a7, _, a9⟩ := h
  have nsh : sh.testBit v = false := dp_bf.mpr (fun z => by have := a3 v z; omega)
  obtain ⟨m1, m2⟩ := dp_NC_IC lk a1 hC
  have nC : ∀ i, C.testBit i = true → ¬ (fi ||| 2 ^ v).testBit i = true := fun i z => dp_bf.mp (dp_dnI.mp (hC.1 i z)).2
  refine ⟨a1, fun i z => ?_, fun i z => by have := a3 i z; omega, fun i z => ?_, fun i z => ?_, fun i hi z y => ?_, a7, ⟨sh ||| C, m1, by omega, fun i hi => ?_⟩, fun D h1 h2 => ?_⟩
  · rcases dp_orI.mp z with y | y
    · have := a2 i y
      omega
    · rw [dp_pwI.mp y]
      exact Nat.le_refl _
  · rcases dp_orI.mp z with y | y
    · exact a4 i y
    · rw [dp_pwI.mp y]
      exact hv
  · rcases dp_orI.mp z with y | y
    · exact a5 i y
    · rw [dp_pwI.mp y]
      exact nsh
  · rw [dp_orI]
    by_cases e : i = v
    · exact Or.inr (dp_pwI.mpr e)
    · exact Or.inl (a6 i (by omega) z y)
  · apply dp_beq
    rw [dp_orI]
    constructor
    · rintro (z | z)
      · exact z
      · have y := dp_dnI.mp (hC.1 i z)
        have x := dp_dnI.mp y.1
        by_cases e : i = v
        · exact absurd (dp_orI.mpr (Or.inr (dp_pwI.mpr e))) (nC i z)
        · exact absurd (dp_orI.mpr (Or.inl (a6 i (by omega) x.1 x.2))) (nC i z)
    · exact Or.inl
  · rw [dp_divbit sh v, dp_divbit D v, nsh]
    have := a9 D h1 h2
    show 2 * (sh / 2 ^ (v + 1)) + 0 ≤ _
    omega
theorem dp_FC_shut {K v left sh fi : Nat} (hv : v < n) (h : dp_FC n s t g K (v + 1) left sh fi) (hin : (dp_in n s t).testBit v = true) (h8 : v < 8)
    (hno : ∀ D, dp_IC n s t g D → dp_cd D = K → (∀ i, v + 1 ≤ i → D.testBit i = sh.testBit i) → D.testBit v = true) :
    1 ≤ left ∧ dp_FC n s t g K v (left - 1) (sh ||| 2 ^ v) fi := by
  obtain ⟨a1, a2, a3, a4, a5, a6, a7, ⟨D, d1, d2, d3⟩, a9⟩ := h
  have nsh : sh.testBit v = false := dp_bf.mpr (fun z => by have := a3 v z; omega)
  have Dv := hno D d1 d2 d3
  have cs : dp_cd (sh ||| 2 ^ v) = dp_cd sh + 1 := by
    rw [dp_cdA (fun i z => dp_bf.mpr (fun y => by rw [dp_pwI.mp y] at z; exact dp_bf.mp nsh z)), dp_cdP v h8]
  have sD : dp_sb (sh ||| 2 ^ v) D := fun i z => by
    rcases dp_orI.mp z with y | y
    · rw [d3 i (a3 i y)]
      exact y
    · rw [dp_pwI.mp y]
      exact Dv
  have cl := dp_cdM sD
  refine ⟨by omega, fun i z => d1.2.1 i (sD i z), fun i z => by have := a2 i z; omega, fun i z => ?_, a4, fun i z => ?_, fun i hi z y => ?_, by omega, ⟨D, d1, d2, fun i hi => ?_⟩, fun E h1 h2 => ?_⟩
  · rcases dp_orI.mp z with y | y
    · have := a3 i y
      omega
    · rw [dp_pwI.mp y]
      exact Nat.le_refl _
  · rw [dp_bf, dp_orI]
    rintro (y | y)
    · exact dp_bf.mp (a5 i z) y
    · have w := dp_pwI.mp y
      have := a2 i z
      omega
  · rw [dp_bf, dp_orI] at y
    have e : i ≠ v := fun q => y (Or.inr (dp_pwI.mpr q))
    exact a6 i (by omega) z (dp_bf.mpr (fun q => y (Or.inl q)))
  · apply dp_beq
    rw [dp_orI]
    by_cases e : i = v
    · rw [e]
      exact ⟨fun _ => Or.inr (dp_pwI.mpr rfl), fun _ => Dv⟩
    · rw [d3 i (by omega)]
      exact ⟨Or.inl, fun z => z.elim (fun y => y) (fun y => absurd (dp_pwI.mp y) e)⟩
  · have q1 : (sh ||| 2 ^ v) / 2 ^ v = 2 * (sh / 2 ^ (v + 1)) + 1 := by
      rw [dp_divbit]
      have x1 : (sh ||| 2 ^ v).testBit v = true := dp_orI.mpr (Or.inr (dp_pwI.mpr rfl))
      have x2 : (sh ||| 2 ^ v) / 2 ^ (v + 1) = sh / 2 ^ (v + 1) := by
        apply dp_ext
        intro i
        rw [Nat.testBit_div_two_pow, Nat.testBit_div_two_pow, dp_orI, dp_pwI]
        exact ⟨fun z => z.elim (fun y => y) (fun y => by omega), Or.inl⟩
      rw [x1, x2]
      rfl
    rw [q1, dp_divbit E v]
    have w := a9 E h1 h2
    rcases Nat.lt_or_ge (sh / 2 ^ (v + 1)) (E / 2 ^ (v + 1)) with z | z
    · omega
    · have ee : E / 2 ^ (v + 1) = sh / 2 ^ (v + 1) := by omega
      have Ev := hno E h1 h2 (fun i hi => by
        have x : (E / 2 ^ (v + 1)).testBit (i - (v + 1)) = (sh / 2 ^ (v + 1)).testBit (i - (v + 1)) := by rw [ee]
        rw [Nat.testBit_div_two_pow, Nat.testBit_div_two_pow] at x
        have y : i - (v + 1) + (v + 1) = i := by omega
        rw [y] at x
        exact x)
      rw [Ev]
      show _ ≤ 2 * (E / 2 ^ (v + 1)) + 1
      omega
end
end
section
/-! firstCut -/
theorem dp_m1 (w : Nat) : nI w + (-1) = nI w - 1 := by grind
section
variable {n s t K : Nat} {g : Nat → Nat} {st : Nat → Int32}
theorem dp_Xfc37 {post : Int32 → SX → Prop} (H : dp_ok n g) (hs : s < n) (ht : t < n) (hne : s ≠ t) (lk : (g s).testBit t = false) (hK : K ≤ 6)
    (hmin : ∀ D, dp_IC n s t g D → K ≤ dp_cd D)
    (hp : ∀ left sh fi room cf q, dp_FC n s t g K 0 left sh fi → post (nI sh) (nI n, nI s, nI t, dp_nr g, room, cf, q, st)) :
    ∀ (m left sh fi : Nat) (room cf q : Nat → Int32), m ≤ n → dp_FC n s t g K m left sh fi →
      wX_firstCut_37 post (m + 1) (nI left) (nI sh) (nI fi) (nI m - 1) (nI n) (nI s) (nI t) (dp_nr g) room cf q st := by
  have h8 := H.2.1
  have dr0 := dp_drf lk
  intro m
  induction m with
  | zero =>
    intro left sh fi room cf q hm hF
    exact br_t (by decide) (hp left sh fi room cf q hF)
  | succ w ih =>
    intro left sh fi room cf q hm hF
    rw [nI_pred]
    refine br_f (nI_pos (by omega)) ?_
    have next : nI w + (-1) = nI w - 1 := dp_m1 w
    by_cases ws : w = s
    · exact br_t (by rw [ws]) (nm_r (e' := nI w - 1) next (ih left sh fi room cf q (by omega) (dp_FC_skip hF (Or.inl ws))))
    · refine br_f (by rw [nI_eq (by omega) (by omega)]; exact ws) ?_
      by_cases wt : w = t
      · exact br_t (by rw [wt]) (nm_r (e' := nI w - 1) next (ih left sh fi room cf q (by omega) (dp_FC_skip hF (Or.inr wt))))
      · refine br_f (by rw [nI_eq (by omega) (by omega)]; exact wt) ?_
        rw [dp_shl w (by omega), dp_or, dp_or]
        have F := hF
        obtain ⟨a1, a2, a3, a4, a5, a6, a7, a8, a9⟩ := F
        have i8 : dp_in n s t < 256 := dp_in8 h8
        have sh8 : sh < 256 := dp_sb256 a1 i8
        have fi8 : fi ||| 2 ^ w < 256 := dp_lt256 (fun i z => by
          rcases dp_orI.mp z with y | y
          · have := a4 i y; omega
          · have := dp_pwI.mp y; omega)
        have win : (dp_in n s t).testBit w = true := dp_inI.mpr ⟨by omega, ws, wt⟩
        have ctx : dp_ctx n s t g sh := ⟨H, hs, ht, hne, dp_bf.mpr (fun z => (dp_inI.mp (a1 s z)).2.1 rfl), dp_bf.mpr (fun z => (dp_inI.mp (a1 t z)).2.2 rfl)⟩
        refine dp_Xflow ctx sh8 fi8 ?_
        intro k room' cf' q' hS
        obtain ⟨f1, f2, f3, f4⟩ := hS
        have big : ∀ C, dp_NC n s t g sh (fi ||| 2 ^ w) C → left ≤ dp_cd C := by
          intro C hC
          obtain ⟨m1, m2⟩ := dp_NC_IC lk a1 hC
          have := hmin _ m1
          omega
        by_cases e : k = left
        · obtain ⟨C, hC, hc⟩ := f2 (by omega)
          have hb := big C hC
          refine br_t (by rw [e]) (nm_e (nm_r (e' := nI w - 1) next ?_))
          exact ih left sh (fi ||| 2 ^ w) room' cf' q' (by omega) (dp_FC_firm (by omega) hF win lk hC (by omega))
        · obtain ⟨l1, hF2⟩ := dp_FC_shut (by omega) hF win (by omega) (fun D d1 d2 d3 => by
            cases Dw : D.testBit w
            · exfalso
              have sD : dp_sb sh D := fun i z => by
                rw [d3 i (a3 i z)]
                exact z
              have fD : ∀ i, (fi ||| 2 ^ w).testBit i = true → D.testBit i = false := by
                intro i z
                rcases dp_orI.mp z with y | y
                · rw [d3 i (a2 i y)]
                  exact a5 i y
                · rw [dp_pwI.mp y]
                  exact Dw
              obtain ⟨m1, m2⟩ := dp_IC_NC d1 sD fD
              have m3 := f3 _ m1
              obtain ⟨C, hC, hc⟩ := f2 (by omega)
              have hb := big C hC
              omega
            · rfl)
          refine br_f ?_ (nm_e (nm_r (e' := nI (left - 1)) (sb_m1 (by omega)) (nm_r (e' := nI w - 1) next ?_)))
          · rw [nI_eq (by omega) (by omega)]
            exact e
          · exact ih (left - 1) (sh ||| 2 ^ w) fi room' cf' q' (by omega) hF2
end
theorem i_vc_firstCut {k : Nat} {u : SX} {v : SY} (I : i_Rel k u v) (hk : k + 4 ≤ 2049) : wpX_firstCut (fun r u' => wpY_firstCut (fun r' => r' = r ∧ i_Rel (k + 4) u' v) v) u := by
  obtain ⟨n, s, t, g, rm, cf, q, st, wh, mo, H, hs, ht, hne, rfl, rfl⟩ := I
  have h8 := H.2.1
  have i8 : dp_in n s t < 256 := dp_in8 h8
  unfold wpX_firstCut wpY_firstCut
  dsimp only
  refine dp_Xlinked (dp_ok8 H s) (by omega) (by omega) (fun lk => ?_) (fun lk => ?_)
  · refine br_f (by decide) ?_
    refine dp_Yleast (w := 0) H hs ht (by omega) (fun _ => ?_) (fun B _ hB _ => absurd lk (dp_bf.mp hB.1))
    exact ⟨rfl, dp_rel H hs ht hne⟩
  · refine br_t rfl ?_
    refine dp_Xflow (sh := 0) (fi := 0) (dp_ctx0 H hs ht hne) (by omega) (by omega) ?_
    intro K rm cf q hF
    have dr0 := dp_drf lk
    obtain ⟨f1, f2, f3, f4⟩ := hF
    have c0 := dp_cd0
    have hmin : ∀ D, dp_IC n s t g D → K ≤ dp_cd D := by
      intro D hD
      have l1 := dp_IC_NC (sh := 0) (fi := 0) hD (dp_sb0 _) (fun i z => by rw [Nat.zero_testBit] at z; exact absurd z (by decide))
      have l2 := f3 _ l1.1
      have l3 := l1.2
      omega
    have hK : K ≤ 6 := Nat.le_trans (hmin _ (dp_IC_all lk)) (dp_in_cd (by omega) (by omega) hne)
    obtain ⟨C, hC, hc⟩ := f2 (by omega)
    obtain ⟨m1, m2⟩ := dp_NC_IC (sh := 0) lk (dp_sb0 _) hC
    have m3 := hmin _ m1
    have z0 : ∀ {i : Nat} {P : Prop}, Nat.testBit 0 i = true → P := fun z => by
      rw [Nat.zero_testBit] at z
      exact absurd z (by decide)
    refine nm_r (e' := nI n - 1) rfl ⟨n + 1, dp_Xfc37 (K := K) H hs ht hne lk hK hmin ?_ n K 0 0 rm cf q (Nat.le_refl _) ?_⟩
    · intro left sh fi room cf q hFC
      obtain ⟨a1, a2, a3, a4, a5, a6, a7, ⟨D, d1, d2, d3⟩, a9⟩ := hFC
      have e : D = sh := Nat.eq_of_testBit_eq (fun i => d3 i (Nat.zero_le _))
      rw [e] at d1 d2
      refine dp_Yleast (w := 0) H hs ht (by omega) (fun hno => absurd d1 (hno _ (dp_sb0 _))) (fun B _ hB hmn => ?_)
      have x1 := hmn sh (dp_sb0 _) d1
      have x2 := hmin B hB
      have x3 := a9 B hB (by omega)
      rw [Nat.pow_zero, Nat.div_one, Nat.div_one] at x3
      have x4 := x1.2 (by omega)
      have eB : B = sh := by omega
      exact ⟨by rw [eB], dp_rel H hs ht hne⟩
    · refine ⟨dp_sb0 _, fun i z => z0 z, fun i z => z0 z, fun i z => z0 z, fun i z => z0 z, fun i hi z _ => ?_, by omega, ⟨0 ||| C, m1, by omega, fun i hi => ?_⟩, fun D _ _ => ?_⟩
      · have := (dp_inI.mp z).1
        omega
      · rw [Nat.zero_testBit, dp_bf]
        intro z
        have := (dp_inI.mp (m1.2.1 i z)).1
        omega
      · rw [Nat.zero_div]
        exact Nat.zero_le _
end
section
/-! loss -/
section
variable {n s t v : Nat} {g g' : Nat → Nat}
theorem dp_iso_Ld (hI : ∀ w x, (g' w).testBit x = true ↔ (g w).testBit x = true ∧ w ≠ v ∧ x ≠ v) (sv : s ≠ v) (tv : t ≠ v) (m : Nat) :
    dp_Ld g' s t m ↔ dp_Ld g s t (dp_dn m (2 ^ v)) := by
  have mI : ∀ w, (dp_dn m (2 ^ v)).testBit w = true ↔ m.testBit w = true ∧ w ≠ v := fun w => by
    rw [dp_dnI, dp_bf, dp_pwI]
  constructor
  · rintro ⟨w, r, e⟩
    refine ⟨w, r (fun w => dp_Rc g s (dp_dn m (2 ^ v)) w) (fun x a b => ?_) (fun u x c a b => ?_), ((hI t w).mp e).1⟩
    · have z := (hI s x).mp a
      exact dp_Rc0 z.1 ((mI x).mpr ⟨b, z.2.2⟩)
    · have z := (hI u x).mp a
      exact dp_RcS c z.1 ((mI x).mpr ⟨b, z.2.2⟩)
  · rintro ⟨w, r, e⟩
    have k : dp_Rc g' s m w ∧ w ≠ v := by
      refine r (fun w => dp_Rc g' s m w ∧ w ≠ v) (fun x a b => ?_) (fun u x c a b => ?_)
      · have z := (mI x).mp b
        exact ⟨dp_Rc0 ((hI s x).mpr ⟨a, sv, z.2⟩) z.1, z.2⟩
      · have z := (mI x).mp b
        exact ⟨dp_RcS c.1 ((hI u x).mpr ⟨a, c.2, z.2⟩) z.1, z.2⟩
    exact ⟨w, k.1, (hI t w).mpr ⟨e, tv, k.2⟩⟩
theorem dp_iso_Pk (hI : ∀ w x, (g' w).testBit x = true ↔ (g w).testBit x = true ∧ w ≠ v ∧ x ≠ v) (sv : s ≠ v) (tv : t ≠ v) :
    ∀ j m : Nat, dp_Pk g' s t j m ↔ dp_Pk g s t j (dp_dn m (2 ^ v)) := by
  intro j
  induction j with
  | zero => intro m; exact ⟨fun _ => trivial, fun _ => trivial⟩
  | succ j ih =>
    intro m
    constructor
    · rintro ⟨p, a, b, c⟩
      refine ⟨dp_dn p (2 ^ v), dp_dn_mono a, (dp_iso_Ld hI sv tv p).mp b, ?_⟩
      refine dp_Pk_m (fun i z => ?_) ((ih _).mp c)
      have z1 := dp_dnI.mp z
      have z2 := dp_dnI.mp z1.1
      rw [dp_dnI, dp_dnI]
      exact ⟨⟨z2.1, z1.2⟩, dp_bf.mpr (fun y => dp_bf.mp z2.2 (dp_dnI.mp y).1)⟩
    · rintro ⟨p, a, b, c⟩
      have pe : dp_dn p (2 ^ v) = p := by
        apply dp_ext
        intro i
        rw [dp_dnI]
        exact ⟨fun z => z.1, fun z => ⟨z, (dp_dnI.mp (a i z)).2⟩⟩
      refine ⟨p, fun i z => (dp_dnI.mp (a i z)).1, (dp_iso_Ld hI sv tv p).mpr (by rw [pe]; exact b), (ih _).mpr ?_⟩
      refine dp_Pk_m (fun i z => ?_) c
      have z1 := dp_dnI.mp z
      have z2 := dp_dnI.mp z1.1
      rw [dp_dnI, dp_dnI]
      exact ⟨⟨z2.1, z1.2⟩, z2.2⟩
theorem dp_iso_mx (hI : ∀ w x, (g' w).testBit x = true ↔ (g w).testBit x = true ∧ w ≠ v ∧ x ≠ v) (sv : s ≠ v) (tv : t ≠ v) {m : Nat} (hm : m < 256) :
    dp_mx g' s t m = dp_mx g s t (dp_dn m (2 ^ v)) := by
  have d8 : dp_dn m (2 ^ v) < 256 := dp_sb256 (dp_dn_sb _ _) hm
  exact dp_mxU hm ((dp_iso_Pk hI sv tv _ m).mpr (dp_mx1 d8)) (fun j hj => dp_mx2 d8 ((dp_iso_Pk hI sv tv j m).mp hj))
theorem dp_iso_dr (hI : ∀ w x, (g' w).testBit x = true ↔ (g w).testBit x = true ∧ w ≠ v ∧ x ≠ v) (sv : s ≠ v) (tv : t ≠ v) : dp_dr g' s t = dp_dr g s t := by
  unfold dp_dr
  have e : (g' s).testBit t = (g s).testBit t := by
    apply dp_beq
    rw [hI]
    exact ⟨fun z => z.1, fun z => ⟨z, sv, tv⟩⟩
  rw [e]
theorem dp_Yl81 {post : Int32 → SY → Prop} {x2 x4 : Int32} (H : dp_ok n g) (hv : v < n)
    (hp : ∀ wh mo, post (x2 - x4) (nI n, nI s, nI t, dp_nr g, wh, mo)) :
    ∀ (d i : Nat) (g' : Nat → Nat) (wh mo : Nat → Int32), i + d = n →
      (∀ w x, (g' w).testBit x = true ↔ (g w).testBit x = true ∧ (w = v → x < i) ∧ (x = v → w < i)) →
      wY_loss_81 post (nI v) x2 (nI (g v)) x4 (d + 1) (nI i) (nI n) (nI s) (nI t) (dp_nr g') wh mo := by
  have h8 := H.2.1
  have sym := H.2.2.1
  intro d
  induction d with
  | zero =>
    intro i g' wh mo hi hg
    have e : g' = g := by
      apply dp_gext
      intro w x
      rw [hg]
      refine ⟨fun z => z.1, fun z => ⟨z, fun _ => ?_, fun _ => ?_⟩⟩
      · have := (H.2.2.2.2 w x z).2
        omega
      · have := (H.2.2.2.2 w x z).1
        omega
    rw [e]
    exact br_t (nI_le (by omega) (by omega)) (hp wh mo)
  | succ d ih =>
    intro i g' wh mo hi hg
    refine br_f (nI_ge (by omega) (by omega)) ?_
    by_cases e : i = v
    · refine br_t (by rw [e]) (nm_r (e' := nI (i + 1)) (nI_1 i) (ih (i + 1) g' wh mo (by omega) (fun w x => ?_)))
      rw [hg]
      constructor
      · rintro ⟨a, b, c⟩
        exact ⟨a, fun y => by have := b y; omega, fun y => by have := c y; omega⟩
      · rintro ⟨a, b, c⟩
        have ne : ¬ (w = v ∧ x = v) := fun y => by
          rw [y.1, y.2] at a
          exact dp_bf.mp (H.2.2.2.1 v) a
        refine ⟨a, fun y => ?_, fun y => ?_⟩
        · have := b y
          have q : x ≠ v := fun q => ne ⟨y, q⟩
          omega
        · have := c y
          have q : w ≠ v := fun q => ne ⟨q, y⟩
          omega
    · refine br_f (by rw [nI_eq (by omega) (by omega)]; exact e) ?_
      refine dp_Yhas (by have := dp_ok8 H v; omega) (by omega) (fun lk => ?_) (fun lk => ?_)
      · refine dp_Yput1 (by decide) (by omega) (by omega) e ?_
        refine nm_r (e' := nI (i + 1)) (nI_1 i) (ih (i + 1) _ wh mo (by omega) (fun w x => ?_))
        rw [dp_adI e, hg]
        constructor
        · rintro (⟨a, b, c⟩ | ⟨a, b⟩ | ⟨a, b⟩)
          · exact ⟨a, fun y => by have := b y; omega, fun y => by have := c y; omega⟩
          · rw [a, b, sym]
            exact ⟨lk, fun y => absurd y e, fun _ => by omega⟩
          · rw [a, b]
            exact ⟨lk, fun _ => by omega, fun y => absurd y e⟩
        · rintro ⟨a, b, c⟩
          by_cases p : w = i ∧ x = v
          · exact Or.inr (Or.inl p)
          · by_cases p2 : w = v ∧ x = i
            · exact Or.inr (Or.inr p2)
            · refine Or.inl ⟨a, fun y => ?_, fun y => ?_⟩
              · have := b y
                have q : x ≠ i := fun q => p2 ⟨y, q⟩
                omega
              · have := c y
                have q : w ≠ i := fun q => p ⟨q, y⟩
                omega
      · refine dp_Yput0 (by omega) (by omega) e ?_
        refine nm_r (e' := nI (i + 1)) (nI_1 i) (ih (i + 1) _ wh mo (by omega) (fun w x => ?_))
        rw [dp_rmI e, hg]
        constructor
        · rintro ⟨⟨a, b, c⟩, p, p2⟩
          exact ⟨a, fun y => by have := b y; omega, fun y => by have := c y; omega⟩
        · rintro ⟨a, b, c⟩
          have p : ¬ (w = i ∧ x = v) := fun y => by
            rw [y.1, y.2, sym] at a
            exact dp_bf.mp lk a
          have p2 : ¬ (w = v ∧ x = i) := fun y => by
            rw [y.1, y.2] at a
            exact dp_bf.mp lk a
          refine ⟨⟨a, fun y => ?_, fun y => ?_⟩, p, p2⟩
          · have := b y
            have q : x ≠ i := fun q => p2 ⟨y, q⟩
            omega
          · have := c y
            have q : w ≠ i := fun q => p ⟨q, y⟩
            omega
theorem dp_Yl43 {post : Int32 → SY → Prop} {x2 : Int32} (H : dp_ok n g) (hs : s < n) (ht : t < n) (hv : v < n) (sv : s ≠ v) (tv : t ≠ v)
    (hp : ∀ wh mo, post (x2 - nI (dp_dr g s t + dp_mx g s t (dp_dn (dp_in n s t) (2 ^ v)))) (nI n, nI s, nI t, dp_nr g, wh, mo)) :
    ∀ (d i : Nat) (g' : Nat → Nat) (wh mo : Nat → Int32), i + d = n → dp_ok n g' →
      (∀ w x, (g' w).testBit x = true ↔ (g w).testBit x = true ∧ (w = v → i ≤ x) ∧ (x = v → i ≤ w)) →
      wY_loss_43 post (nI v) x2 (nI (g v)) (d + 1) (nI i) (nI n) (nI s) (nI t) (dp_nr g') wh mo := by
  have h8 := H.2.1
  have i8 : dp_in n s t < 256 := dp_in8 h8
  intro d
  induction d with
  | zero =>
    intro i g' wh mo hi H' hg
    have hI : ∀ w x, (g' w).testBit x = true ↔ (g w).testBit x = true ∧ w ≠ v ∧ x ≠ v := by
      intro w x
      rw [hg]
      constructor
      · rintro ⟨a, b, c⟩
        have bd := H.2.2.2.2 w x a
        exact ⟨a, fun y => by have := b y; omega, fun y => by have := c y; omega⟩
      · rintro ⟨a, b, c⟩
        exact ⟨a, fun y => absurd y b, fun y => absurd y c⟩
    refine br_t (nI_le (by omega) (by omega)) ?_
    refine dp_Ypaths H' hs ht (fun wh mo => ?_)
    rw [dp_iso_dr hI sv tv, dp_iso_mx hI sv tv i8]
    refine ⟨n + 1, dp_Yl81 H hv hp n 0 g' wh mo (by omega) (fun w x => ?_)⟩
    rw [hI]
    constructor
    · rintro ⟨a, b, c⟩
      exact ⟨a, fun y => absurd y b, fun y => absurd y c⟩
    · rintro ⟨a, b, c⟩
      exact ⟨a, fun y => by have := b y; omega, fun y => by have := c y; omega⟩
  | succ d ih =>
    intro i g' wh mo hi H' hg
    refine br_f (nI_ge (by omega) (by omega)) ?_
    by_cases e : i = v
    · refine br_t (by rw [e]) (nm_r (e' := nI (i + 1)) (nI_1 i) (ih (i + 1) g' wh mo (by omega) H' (fun w x => ?_)))
      rw [hg]
      constructor
      · rintro ⟨a, b, c⟩
        have ne : ¬ (w = v ∧ x = v) := fun y => by
          rw [y.1, y.2] at a
          exact dp_bf.mp (H.2.2.2.1 v) a
        refine ⟨a, fun y => ?_, fun y => ?_⟩
        · have := b y
          have q : x ≠ v := fun q => ne ⟨y, q⟩
          omega
        · have := c y
          have q : w ≠ v := fun q => ne ⟨q, y⟩
          omega
      · rintro ⟨a, b, c⟩
        exact ⟨a, fun y => by have := b y; omega, fun y => by have := c y; omega⟩
    · refine br_f (by rw [nI_eq (by omega) (by omega)]; exact e) ?_
      refine dp_Yput0 (by omega) (by omega) e ?_
      refine nm_r (e' := nI (i + 1)) (nI_1 i) (ih (i + 1) _ wh mo (by omega) (dp_rm_ok H' e) (fun w x => ?_))
      rw [dp_rmI e, hg]
      constructor
      · rintro ⟨⟨a, b, c⟩, p, p2⟩
        refine ⟨a, fun y => ?_, fun y => ?_⟩
        · have := b y
          have q : x ≠ i := fun q => p2 ⟨y, q⟩
          omega
        · have := c y
          have q : w ≠ i := fun q => p ⟨q, y⟩
          omega
      · rintro ⟨a, b, c⟩
        refine ⟨⟨a, fun y => by have := b y; omega, fun y => by have := c y; omega⟩, fun y => ?_, fun y => ?_⟩
        · have := c y.2
          omega
        · have := b y.1
          omega
end
theorem i_vc_loss {k : Nat} {u : SX} {v : SY} (I : i_Rel k u v) (hk : k + 4 ≤ 2049) (v1 : Int32) : wpX_loss (fun r u' => wpY_loss (fun r' v' => r' = r ∧ i_Rel (k + 4) u' v') v v1) u v1 := by
  obtain ⟨n, s, t, g, rm, cf, q, st, wh, mo, H, hs, ht, hne, rfl, rfl⟩ := I
  have h8 := H.2.1
  unfold wpX_loss
  dsimp only
  rcases dp_ix v1 h8 with hx | ⟨j, hj, rfl⟩
  · refine dp_Xbad1 hx ?_
    refine br_f (by decide) ?_
    unfold wpY_loss
    dsimp only
    refine dp_Yv0 hx ?_
    exact br_t rfl ⟨rfl, dp_rel H hs ht hne⟩
  · have p8 : 2 ^ j < 256 := by
      have : 2 ^ j < 2 ^ 8 := Nat.pow_lt_pow_right (by omega) (by omega)
      omega
    refine dp_Xbad0 h8 hj ?_
    refine br_t rfl ?_
    rw [dp_shl j (by omega)]
    by_cases js : j = s
    · refine br_t (by rw [js]) ?_
      unfold wpY_loss
      dsimp only
      refine dp_Yv1 h8 hj ?_
      refine br_f (by decide) ?_
      exact br_t (by rw [js]) ⟨rfl, dp_rel H hs ht hne⟩
    · refine br_f (by rw [nI_eq (by omega) (by omega)]; exact js) ?_
      by_cases jt : j = t
      · refine br_t (by rw [jt]) ?_
        unfold wpY_loss
        dsimp only
        refine dp_Yv1 h8 hj ?_
        refine br_f (by decide) ?_
        exact br_f (by rw [nI_eq (by omega) (by omega)]; exact js) (br_t (by rw [jt]) ⟨rfl, dp_rel H hs ht hne⟩)
      · refine br_f (by rw [nI_eq (by omega) (by omega)]; exact jt) ?_
        refine dp_Xflow00 H hs ht hne (fun rm cf q => ?_)
        have ctx : dp_ctx n s t g (2 ^ j) := ⟨H, hs, ht, hne, dp_bf.mpr (fun z => js (dp_pwI.mp z).symm), dp_bf.mpr (fun z => jt (dp_pwI.mp z).symm)⟩
        refine dp_Xflow0 ctx p8 (fun rm cf q => ?_)
        unfold wpY_loss
        dsimp only
        refine dp_Yv1 h8 hj ?_
        refine br_f (by decide) ?_
        refine br_f (by rw [nI_eq (by omega) (by omega)]; exact js) (br_f (by rw [nI_eq (by omega) (by omega)]; exact jt) ?_)
        refine dp_Ypaths H hs ht (fun wh mo => ?_)
        refine And.intro (vp_in_nI (by omega) (by omega)) (nm_r (e' := nI (g j)) (dp_nrE g (by omega)) ⟨n + 1, ?_⟩)
        refine dp_Yl43 H hs ht hj (fun y => js y.symm) (fun y => jt y.symm) (fun wh mo => ⟨rfl, dp_rel H hs ht hne⟩) n 0 g wh mo (by omega) H (fun w x => ?_)
        exact ⟨fun z => ⟨z, fun _ => Nat.zero_le _, fun _ => Nat.zero_le _⟩, fun z => z.1⟩
end
section
/-! tightEdges, helpfulEdges -/
noncomputable def dp_vl (n s t : Nat) (g : Nat → Nat) : Nat := dp_dr g s t + dp_mx g s t (dp_in n s t)
def dp_tg (g : Nat → Nat) (u v : Nat) : Nat → Nat := if (g u).testBit v = true then dp_rm g u v else dp_ad g u v
def dp_fd (f : Nat → Nat → Nat) (a : Nat) : Nat → Nat
  | 0 => a
  | x + 1 => f x (dp_fd f a x)
theorem dp_fd_id {f : Nat → Nat → Nat} {a : Nat} : ∀ {N : Nat}, (∀ x c, x < N → f x c = c) → dp_fd f a N = a
  | 0, _ => rfl
  | N + 1, h => by
    show f N (dp_fd f a N) = a
    rw [h N _ (by omega), dp_fd_id (fun x c hx => h x c (by omega))]
theorem dp_vl_mono {n s t : Nat} {g g' : Nat → Nat} (hn : n ≤ 8) (h : ∀ u, dp_sb (g u) (g' u)) : dp_vl n s t g ≤ dp_vl n s t g' := by
  have i8 : dp_in n s t < 256 := dp_in8 hn
  exact Nat.add_le_add (dp_tnM (h s t)) (dp_mx2 i8 (dp_Pk_mono h (dp_sb_rf _) (dp_mx1 i8)))
theorem dp_vl9 {n s t : Nat} {g : Nat → Nat} (hn : n ≤ 8) : dp_vl n s t g ≤ 9 := by
  have a := dp_dr1 g s t
  have b := dp_mx8 (g := g) (s := s) (t := t) (dp_in8 (n := n) (s := s) (t := t) hn)
  unfold dp_vl
  omega
theorem dp_tg_ok {n u v : Nat} {g : Nat → Nat} (H : dp_ok n g) (hu : u < n) (hv : v < n) (h : u ≠ v) : dp_ok n (dp_tg g u v) := by
  unfold dp_tg
  by_cases e : (g u).testBit v = true
  · rw [if_pos e]; exact dp_rm_ok H h
  · rw [if_neg e]; exact dp_ad_ok H hu hv h
theorem dp_tg1 {u v : Nat} {g : Nat → Nat} (e : (g u).testBit v = true) : dp_tg g u v = dp_rm g u v := by unfold dp_tg; rw [if_pos e]
theorem dp_tg0 {u v : Nat} {g : Nat → Nat} (e : (g u).testBit v = false) : dp_tg g u v = dp_ad g u v := by unfold dp_tg; rw [if_neg (dp_bf.mp e)]
/-- one more pair looked at -/
noncomputable def dp_cc (n s t : Nat) (g : Nat → Nat) (on : Bool) (u x c : Nat) : Nat :=
  if u < x ∧ (g u).testBit x = on ∧ dp_vl n s t (dp_tg g u x) ≠ dp_vl n s t g then c + 1 else c
noncomputable def dp_cr (n s t : Nat) (g : Nat → Nat) (on : Bool) (u c : Nat) : Nat := dp_fd (dp_cc n s t g on u) c n
section
variable {n s t : Nat} {g : Nat → Nat}
theorem dp_cc0 {on : Bool} (u c : Nat) : dp_fd (dp_cc n s t g on u) c (u + 1) = c :=
  dp_fd_id (fun x c hx => if_neg (fun z => by omega))
theorem dp_XflowWith {post : Int32 → SX → Prop} {rm cf q st : Nat → Int32} {u v : Nat} (H : dp_ok n g) (hs : s < n) (ht : t < n) (hne : s ≠ t) (hu : u < n) (hv : v < n) (h : u ≠ v)
    (hp : ∀ rm cf q, post (nI (dp_vl n s t (dp_tg g u v))) (nI n, nI s, nI t, dp_nr g, rm, cf, q, st)) :
    wpX_flowWith post (nI n, nI s, nI t, dp_nr g, rm, cf, q, st) (nI u) (nI v) := by
  have h8 := H.2.1
  unfold wpX_flowWith
  dsimp only
  refine dp_Xlinked (dp_ok8 H u) (by omega) (by omega) (fun e => ?_) (fun e => ?_)
  · rw [dp_tg1 e] at hp
    refine br_f (by decide) (dp_Xunlink (by omega) (by omega) h ?_)
    dsimp only
    unfold wX_flowWith_26
    refine dp_Xflow00 (dp_rm_ok H h) hs ht hne (fun rm cf q => ?_)
    refine br_f (by decide) (dp_Xlink (by omega) (by omega) h ?_)
    rw [dp_adrm H h e]
    exact hp rm cf q
  · rw [dp_tg0 e] at hp
    refine br_t rfl (dp_Xlink (by omega) (by omega) h ?_)
    dsimp only
    unfold wX_flowWith_26
    refine dp_Xflow00 (dp_ad_ok H hu hv h) hs ht hne (fun rm cf q => ?_)
    refine br_t rfl (dp_Xunlink (by omega) (by omega) h ?_)
    rw [dp_rmad H h e]
    exact hp rm cf q
theorem dp_Xt24 {post : Int32 → SX → Prop} {J : Int32 → Int32 → Int32 → Int32 → Int32 → (Nat → Int32) → (Nat → Int32) → (Nat → Int32) → (Nat → Int32) → (Nat → Int32) → Prop} {st : Nat → Int32} {u c : Nat}
    (H : dp_ok n g) (hs : s < n) (ht : t < n) (hne : s ≠ t) (hu : u < n)
    (hJ : ∀ rm cf q, J (nI (dp_cr n s t g true u c)) (nI (u + 1)) (nI n) (nI s) (nI t) (dp_nr g) rm cf q st) :
    ∀ (d v : Nat) (rm cf q : Nat → Int32), v + d = n → u < v →
      wX_tightEdges_24 post J (nI (dp_vl n s t g)) (nI u) (d + 1) (nI (dp_fd (dp_cc n s t g true u) c v)) (nI v) (nI n) (nI s) (nI t) (dp_nr g) rm cf q st := by
  have h8 := H.2.1
  intro d
  induction d with
  | zero =>
    intro v rm cf q hv huv
    have e : v = n := by omega
    rw [e]
    exact br_t (nI_le (Nat.le_refl _) (by omega)) (nm_r (e' := nI (u + 1)) (nI_1 u) (hJ rm cf q))
  | succ d ih =>
    intro v rm cf q hv huv
    have step : dp_fd (dp_cc n s t g true u) c (v + 1) = dp_cc n s t g true u v (dp_fd (dp_cc n s t g true u) c v) := rfl
    refine br_f (nI_ge (by omega) (by omega)) (dp_Xlinked (dp_ok8 H u) (by omega) (by omega) (fun e => ?_) (fun e => ?_))
    · refine br_f (by decide) (dp_XflowWith H hs ht hne hu (by omega) (by omega) (fun rm cf q => ?_))
      have a9 := dp_vl9 (s := s) (t := t) (g := dp_tg g u v) h8
      have b9 := dp_vl9 (s := s) (t := t) (g := g) h8
      have mono : dp_vl n s t (dp_tg g u v) ≤ dp_vl n s t g := by
        rw [dp_tg1 e]
        exact dp_vl_mono h8 (fun w x z => ((dp_rmI (by omega)).mp z).1)
      rcases Nat.lt_or_ge (dp_vl n s t (dp_tg g u v)) (dp_vl n s t g) with y | y
      · refine br_f (nI_ge y (by omega)) (nm_r (e' := nI (dp_fd (dp_cc n s t g true u) c (v + 1))) ?_ (nm_r (e' := nI (v + 1)) (nI_1 v) (ih (v + 1) rm cf q (by omega) (by omega))))
        rw [step]
        unfold dp_cc
        rw [if_pos ⟨huv, e, by omega⟩]
        exact nI_1 _
      · refine br_t (nI_le y (by omega)) (nm_r (e' := nI (v + 1)) (nI_1 v) ?_)
        have k := ih (v + 1) rm cf q (by omega) (by omega)
        have e2 : dp_cc n s t g true u v (dp_fd (dp_cc n s t g true u) c v) = dp_fd (dp_cc n s t g true u) c v := if_neg (fun z => z.2.2 (by omega))
        rw [step, e2] at k
        exact k
    · refine br_t rfl (nm_r (e' := nI (v + 1)) (nI_1 v) ?_)
      have k := ih (v + 1) rm cf q (by omega) (by omega)
      have e2 : dp_cc n s t g true u v (dp_fd (dp_cc n s t g true u) c v) = dp_fd (dp_cc n s t g true u) c v := if_neg (fun z => absurd z.2.1 (dp_bf.mp e))
      rw [step, e2] at k
      exact k
theorem dp_Xt11 {post : Int32 → SX → Prop} {st : Nat → Int32} (H : dp_ok n g) (hs : s < n) (ht : t < n) (hne : s ≠ t)
    (hp : ∀ rm cf q, post (nI (dp_fd (dp_cr n s t g true) 0 n)) (nI n, nI s, nI t, dp_nr g, rm, cf, q, st)) :
    ∀ (d u : Nat) (rm cf q : Nat → Int32), u + d = n →
      wX_tightEdges_11 post (nI (dp_vl n s t g)) (d + 1) (nI (dp_fd (dp_cr n s t g true) 0 u)) (nI u) (nI n) (nI s) (nI t) (dp_nr g) rm cf q st := by
  have h8 := H.2.1
  intro d
  induction d with
  | zero =>
    intro u rm cf q hu
    have e : u = n := by omega
    rw [e]
    exact br_t (nI_le (Nat.le_refl _) (by omega)) (hp rm cf q)
  | succ d ih =>
    intro u rm cf q hu
    refine br_f (nI_ge (by omega) (by omega)) (nm_r (e' := nI (u + 1)) (nI_1 u) ⟨n - (u + 1) + 1, ?_⟩)
    have k := dp_Xt24 (post := post) (J := wX_tightEdges_11 post (nI (dp_vl n s t g)) (d + 1)) (st := st) (c := dp_fd (dp_cr n s t g true) 0 u) H hs ht hne (by omega : u < n)
      (fun rm cf q => ih (u + 1) rm cf q (by omega)) (n - (u + 1)) (u + 1) rm cf q (by omega) (by omega)
    rw [dp_cc0] at k
    exact k
theorem dp_Xh24 {post : Int32 → SX → Prop} {J : Int32 → Int32 → Int32 → Int32 → Int32 → (Nat → Int32) → (Nat → Int32) → (Nat → Int32) → (Nat → Int32) → (Nat → Int32) → Prop} {st : Nat → Int32} {u c : Nat}
    (H : dp_ok n g) (hs : s < n) (ht : t < n) (hne : s ≠ t) (hu : u < n)
    (hJ : ∀ rm cf q, J (nI (dp_cr n s t g false u c)) (nI (u + 1)) (nI n) (nI s) (nI t) (dp_nr g) rm cf q st) :
    ∀ (d v : Nat) (rm cf q : Nat → Int32), v + d = n → u < v →
      wX_helpfulEdges_24 post J (nI (dp_vl n s t g)) (nI u) (d + 1) (nI (dp_fd (dp_cc n s t g false u) c v)) (nI v) (nI n) (nI s) (nI t) (dp_nr g) rm cf q st := by
  have h8 := H.2.1
  intro d
  induction d with
  | zero =>
    intro v rm cf q hv huv
    have e : v = n := by omega
    rw [e]
    exact br_t (nI_le (Nat.le_refl _) (by omega)) (nm_r (e' := nI (u + 1)) (nI_1 u) (hJ rm cf q))
  | succ d ih =>
    intro v rm cf q hv huv
    have step : dp_fd (dp_cc n s t g false u) c (v + 1) = dp_cc n s t g false u v (dp_fd (dp_cc n s t g false u) c v) := rfl
    refine br_f (nI_ge (by omega) (by omega)) (dp_Xlinked (dp_ok8 H u) (by omega) (by omega) (fun e => ?_) (fun e => ?_))
    · refine br_f (by decide) (nm_r (e' := nI (v + 1)) (nI_1 v) ?_)
      have k := ih (v + 1) rm cf q (by omega) (by omega)
      have e2 : dp_cc n s t g false u v (dp_fd (dp_cc n s t g false u) c v) = dp_fd (dp_cc n s t g false u) c v := if_neg (fun z => absurd e (dp_bf.mp z.2.1))
      rw [step, e2] at k
      exact k
    · refine br_t rfl (dp_XflowWith H hs ht hne hu (by omega) (by omega) (fun rm cf q => ?_))
      have a9 := dp_vl9 (s := s) (t := t) (g := dp_tg g u v) h8
      have b9 := dp_vl9 (s := s) (t := t) (g := g) h8
      have mono : dp_vl n s t g ≤ dp_vl n s t (dp_tg g u v) := by
        rw [dp_tg0 e]
        exact dp_vl_mono h8 (fun w x z => (dp_adI (by omega)).mpr (Or.inl z))
      rcases Nat.lt_or_ge (dp_vl n s t g) (dp_vl n s t (dp_tg g u v)) with y | y
      · refine br_f (nI_ge y (by omega)) (nm_r (e' := nI (dp_fd (dp_cc n s t g false u) c (v + 1))) ?_ (nm_r (e' := nI (v + 1)) (nI_1 v) (ih (v + 1) rm cf q (by omega) (by omega))))
        rw [step]
        unfold dp_cc
        rw [if_pos ⟨huv, e, by omega⟩]
        exact nI_1 _
      · refine br_t (nI_le y (by omega)) (nm_r (e' := nI (v + 1)) (nI_1 v) ?_)
        have k := ih (v + 1) rm cf q (by omega) (by omega)
        have e2 : dp_cc n s t g false u v (dp_fd (dp_cc n s t g false u) c v) = dp_fd (dp_cc n s t g false u) c v := if_neg (fun z => z.2.2 (by omega))
        rw [step, e2] at k
        exact k
theorem dp_Xh11 {post : Int32 → SX → Prop} {st : Nat → Int32} (H : dp_ok n g) (hs : s < n) (ht : t < n) (hne : s ≠ t)
    (hp : ∀ rm cf q, post (nI (dp_fd (dp_cr n s t g false) 0 n)) (nI n, nI s, nI t, dp_nr g, rm, cf, q, st)) :
    ∀ (d u : Nat) (rm cf q : Nat → Int32), u + d = n →
      wX_helpfulEdges_11 post (nI (dp_vl n s t g)) (d + 1) (nI (dp_fd (dp_cr n s t g false) 0 u)) (nI u) (nI n) (nI s) (nI t) (dp_nr g) rm cf q st := by
  have h8 := H.2.1
  intro d
  induction d with
  | zero =>
    intro u rm cf q hu
    have e : u = n := by omega
    rw [e]
    exact br_t (nI_le (Nat.le_refl _) (by omega)) (hp rm cf q)
  | succ d ih =>
    intro u rm cf q hu
    refine br_f (nI_ge (by omega) (by omega)) (nm_r (e' := nI (u + 1)) (nI_1 u) ⟨n - (u + 1) + 1, ?_⟩)
    have k := dp_Xh24 (post := post) (J := wX_helpfulEdges_11 post (nI (dp_vl n s t g)) (d + 1)) (st := st) (c := dp_fd (dp_cr n s t g false) 0 u) H hs ht hne (by omega : u < n)
      (fun rm cf q => ih (u + 1) rm cf q (by omega)) (n - (u + 1)) (u + 1) rm cf q (by omega) (by omega)
    rw [dp_cc0] at k
    exact k
theorem dp_Yt25 {post : Int32 → SY → Prop} {J : Int32 → Int32 → Int32 → Int32 → Int32 → (Nat → Int32) → (Nat → Int32) → (Nat → Int32) → Prop} {u c : Nat} {on : Bool}
    (H : dp_ok n g) (hs : s < n) (ht : t < n) (hu : u < n)
    (hJ : ∀ wh mo, J (nI (dp_cr n s t g on u c)) (nI (u + 1)) (nI n) (nI s) (nI t) (dp_nr g) wh mo) :
    ∀ (d v : Nat) (wh mo : Nat → Int32), v + d = n → u < v →
      wY_telling_25 post J (nI on.toNat) (nI (dp_vl n s t g)) (nI u) (d + 1) (nI (dp_fd (dp_cc n s t g on u) c v)) (nI v) (nI n) (nI s) (nI t) (dp_nr g) wh mo := by
  have h8 := H.2.1
  intro d
  induction d with
  | zero =>
    intro v wh mo hv huv
    have e : v = n := by omega
    rw [e]
    exact br_t (nI_le (Nat.le_refl _) (by omega)) (nm_r (e' := nI (u + 1)) (nI_1 u) (hJ wh mo))
  | succ d ih =>
    intro v wh mo hv huv
    have hne : u ≠ v := by omega
    have step : dp_fd (dp_cc n s t g on u) c (v + 1) = dp_cc n s t g on u v (dp_fd (dp_cc n s t g on u) c v) := rfl
    have a9 := dp_vl9 (s := s) (t := t) (g := dp_tg g u v) h8
    have b9 := dp_vl9 (s := s) (t := t) (g := g) h8
    have no : (g u).testBit v ≠ on → ∀ wh mo, wY_telling_25 post J (nI on.toNat) (nI (dp_vl n s t g)) (nI u) (d + 1) (nI (dp_fd (dp_cc n s t g on u) c v)) (nI (v + 1)) (nI n) (nI s) (nI t) (dp_nr g) wh mo := by
      intro z wh mo
      have k := ih (v + 1) wh mo (by omega) (by omega)
      have e2 : dp_cc n s t g on u v (dp_fd (dp_cc n s t g on u) c v) = dp_fd (dp_cc n s t g on u) c v := if_neg (fun y => z y.2.1)
      rw [step, e2] at k
      exact k
    refine br_f (nI_ge (by omega) (by omega)) (And.intro (vp_in_nI (by omega) (by omega)) ?_)
    rw [dp_nrE g (by omega)]
    -- what follows the count
    have rest : (g u).testBit v = on → ∀ (wh mo : Nat → Int32) (r : Int32), r = nI (dp_vl n s t (dp_tg g u v)) →
        ((r = nI (dp_vl n s t g) → wY_telling_83 post J (wY_telling_25 post J (nI on.toNat) (nI (dp_vl n s t g)) (nI u) (d + 1)) (nI on.toNat) (nI (dp_vl n s t g)) (nI u) (nI v) (nI (dp_fd (dp_cc n s t g on u) c v)) (nI n) (nI s) (nI t) (dp_nr (dp_tg g u v)) wh mo) ∧
         (¬ r = nI (dp_vl n s t g) → wY_telling_83 post J (wY_telling_25 post J (nI on.toNat) (nI (dp_vl n s t g)) (nI u) (d + 1)) (nI on.toNat) (nI (dp_vl n s t g)) (nI u) (nI v) (nI (dp_fd (dp_cc n s t g on u) c v) + 1) (nI n) (nI s) (nI t) (dp_nr (dp_tg g u v)) wh mo)) := by
      intro z wh mo r hr
      have put : ∀ {post' : SY → Prop} {wh mo : Nat → Int32}, post' (nI n, nI s, nI t, dp_nr g, wh, mo) → wpY_put post' (nI n, nI s, nI t, dp_nr (dp_tg g u v), wh, mo) (nI u) (nI v) (nI on.toNat) := by
        intro post' wh mo hp
        cases on
        · rw [dp_tg0 z]
          refine dp_Yput0 (by omega) (by omega) hne ?_
          rw [dp_rmad H hne z]
          exact hp
        · rw [dp_tg1 z]
          refine dp_Yput1 (by decide) (by omega) (by omega) hne ?_
          rw [dp_adrm H hne z]
          exact hp
      have k := ih (v + 1) wh mo (by omega) (by omega)
      rw [hr]
      by_cases y : dp_vl n s t (dp_tg g u v) = dp_vl n s t g
      · refine br_t (by rw [y]) ?_
        unfold wY_telling_83
        refine put ?_
        have e2 : dp_cc n s t g on u v (dp_fd (dp_cc n s t g on u) c v) = dp_fd (dp_cc n s t g on u) c v := if_neg (fun q => q.2.2 y)
        rw [step, e2] at k
        exact nm_r (e' := nI (v + 1)) (nI_1 v) k
      · refine br_f (by rw [nI_eq (by omega) (by omega)]; exact y) ?_
        unfold wY_telling_83
        refine put ?_
        have e2 : dp_cc n s t g on u v (dp_fd (dp_cc n s t g on u) c v) = dp_fd (dp_cc n s t g on u) c v + 1 := if_pos ⟨huv, z, y⟩
        rw [step, e2] at k
        rw [nI_1 (dp_fd (dp_cc n s t g on u) c v)]
        exact nm_r (e' := nI (v + 1)) (nI_1 v) k
    refine dp_Yhas (by have := dp_ok8 H u; omega) (by omega) (fun e => ?_) (fun e => ?_)
    · cases on
      · refine br_f (by decide) (nm_r (e' := nI (v + 1)) (nI_1 v) (no (by rw [e]; decide) wh mo))
      · refine br_t rfl (br_f (by decide) ?_)
        unfold wY_telling_65
        refine dp_Yput0 (by omega) (by omega) hne ?_
        refine dp_Ypaths (dp_rm_ok H hne) hs ht (fun wh mo => ?_)
        have k := rest e wh mo _ rfl
        rw [dp_tg1 e] at k
        exact k
    · cases on
      · refine br_t rfl (br_t rfl ?_)
        unfold wY_telling_65
        refine dp_Yput1 (by decide) (by omega) (by omega) hne ?_
        refine dp_Ypaths (dp_ad_ok H hu (by omega) hne) hs ht (fun wh mo => ?_)
        have k := rest e wh mo _ rfl
        rw [dp_tg0 e] at k
        exact k
      · refine br_f (by decide) (nm_r (e' := nI (v + 1)) (nI_1 v) (no (by rw [e]; decide) wh mo))
theorem dp_Yt10 {post : Int32 → SY → Prop} {on : Bool} (H : dp_ok n g) (hs : s < n) (ht : t < n)
    (hp : ∀ wh mo, post (nI (dp_fd (dp_cr n s t g on) 0 n)) (nI n, nI s, nI t, dp_nr g, wh, mo)) :
    ∀ (d u : Nat) (wh mo : Nat → Int32), u + d = n →
      wY_telling_10 post (nI on.toNat) (nI (dp_vl n s t g)) (d + 1) (nI (dp_fd (dp_cr n s t g on) 0 u)) (nI u) (nI n) (nI s) (nI t) (dp_nr g) wh mo := by
  have h8 := H.2.1
  intro d
  induction d with
  | zero =>
    intro u wh mo hu
    have e : u = n := by omega
    rw [e]
    exact br_t (nI_le (Nat.le_refl _) (by omega)) (hp wh mo)
  | succ d ih =>
    intro u wh mo hu
    refine br_f (nI_ge (by omega) (by omega)) (nm_r (e' := nI (u + 1)) (nI_1 u) ⟨n - (u + 1) + 1, ?_⟩)
    have k := dp_Yt25 (post := post) (J := wY_telling_10 post (nI on.toNat) (nI (dp_vl n s t g)) (d + 1)) (c := dp_fd (dp_cr n s t g on) 0 u) H hs ht (by omega : u < n)
      (fun wh mo => ih (u + 1) wh mo (by omega)) (n - (u + 1)) (u + 1) wh mo (by omega) (by omega)
    rw [dp_cc0] at k
    exact k
theorem dp_Ytelling {post : Int32 → SY → Prop} {on : Bool} {wh mo : Nat → Int32} (H : dp_ok n g) (hs : s < n) (ht : t < n)
    (hp : ∀ wh mo, post (nI (dp_fd (dp_cr n s t g on) 0 n)) (nI n, nI s, nI t, dp_nr g, wh, mo)) :
    wpY_telling post (nI n, nI s, nI t, dp_nr g, wh, mo) (nI on.toNat) := by
  unfold wpY_telling
  dsimp only
  refine dp_Ypaths H hs ht (fun wh mo => ?_)
  exact ⟨n + 1, dp_Yt10 H hs ht hp n 0 wh mo (by omega)⟩
end
theorem i_vc_tightEdges {k : Nat} {u : SX} {v : SY} (I : i_Rel k u v) (hk : k + 4 ≤ 2049) : wpX_tightEdges (fun r u' => wpY_tightEdges (fun r' v' => r' = r ∧ i_Rel (k + 4) u' v') v) u := by
  obtain ⟨n, s, t, g, rm, cf, q, st, wh, mo, H, hs, ht, hne, rfl, rfl⟩ := I
  unfold wpX_tightEdges
  dsimp only
  refine dp_Xflow00 H hs ht hne (fun rm cf q => ?_)
  refine ⟨n + 1, dp_Xt11 H hs ht hne (fun rm cf q => ?_) n 0 rm cf q (by omega)⟩
  unfold wpY_tightEdges
  dsimp only
  refine dp_Ytelling (on := true) H hs ht (fun wh mo => ?_)
  exact ⟨rfl, dp_rel H hs ht hne⟩
theorem i_vc_helpfulEdges {k : Nat} {u : SX} {v : SY} (I : i_Rel k u v) (hk : k + 4 ≤ 2049) : wpX_helpfulEdges (fun r u' => wpY_helpfulEdges (fun r' v' => r' = r ∧ i_Rel (k + 4) u' v') v) u := by
  obtain ⟨n, s, t, g, rm, cf, q, st, wh, mo, H, hs, ht, hne, rfl, rfl⟩ := I
  unfold wpX_helpfulEdges
  dsimp only
  refine dp_Xflow00 H hs ht hne (fun rm cf q => ?_)
  refine ⟨n + 1, dp_Xh11 H hs ht hne (fun rm cf q => ?_) n 0 rm cf q (by omega)⟩
  unfold wpY_helpfulEdges
  dsimp only
  refine dp_Ytelling (on := false) H hs ht (fun wh mo => ?_)
  exact ⟨rfl, dp_rel H hs ht hne⟩
end
section
/-! strength -/
noncomputable def dp_sg (n : Nat) (g : Nat → Nat) (u x c : Nat) : Nat := if u < x ∧ (g u).testBit x = false ∧ dp_vl n u x g < c then dp_vl n u x g else c
noncomputable def dp_sr (n : Nat) (g : Nat → Nat) (u c : Nat) : Nat := dp_fd (dp_sg n g u) c n
theorem dp_fd_le {f : Nat → Nat → Nat} {a : Nat} (h : ∀ x c, f x c ≤ c) : ∀ N : Nat, dp_fd f a N ≤ a
  | 0 => Nat.le_refl _
  | N + 1 => Nat.le_trans (h N _) (dp_fd_le h N)
section
variable {n : Nat} {g : Nat → Nat}
theorem dp_sg_le (u x c : Nat) : dp_sg n g u x c ≤ c := by
  unfold dp_sg
  by_cases h : u < x ∧ (g u).testBit x = false ∧ dp_vl n u x g < c
  · rw [if_pos h]; omega
  · rw [if_neg h]; omega
theorem dp_sr_le (u c : Nat) : dp_sr n g u c ≤ c := dp_fd_le (dp_sg_le u) n
theorem dp_sg0 (u c : Nat) : dp_fd (dp_sg n g u) c (u + 1) = c := dp_fd_id (fun x c hx => if_neg (fun z => by omega))
theorem dp_Xs35 {post : Int32 → SX → Prop} {J : Int32 → Int32 → Int32 → Int32 → Int32 → (Nat → Int32) → (Nat → Int32) → (Nat → Int32) → (Nat → Int32) → (Nat → Int32) → Prop} {st : Nat → Int32} {u c : Nat} {x1 x2 : Int32}
    (H : dp_ok n g) (hu : u < n) (hc : c ≤ 9)
    (hJ : ∀ fs ft rm cf q, J (nI (dp_sr n g u c)) (nI (u + 1)) (nI n) fs ft (dp_nr g) rm cf q st) :
    ∀ (d v : Nat) (fs ft : Int32) (rm cf q : Nat → Int32), v + d = n → u < v →
      wX_strength_35 post J x1 x2 (nI u) (d + 1) (nI (dp_fd (dp_sg n g u) c v)) (nI v) (nI n) fs ft (dp_nr g) rm cf q st := by
  have h8 := H.2.1
  intro d
  induction d with
  | zero =>
    intro v fs ft rm cf q hv huv
    have e : v = n := by omega
    rw [e]
    exact br_t (nI_le (Nat.le_refl _) (by omega)) (nm_r (e' := nI (u + 1)) (nI_1 u) (hJ fs ft rm cf q))
  | succ d ih =>
    intro v fs ft rm cf q hv huv
    have step : dp_fd (dp_sg n g u) c (v + 1) = dp_sg n g u v (dp_fd (dp_sg n g u) c v) := rfl
    have a9 := dp_vl9 (s := u) (t := v) (g := g) h8
    have b9 : dp_fd (dp_sg n g u) c v ≤ 9 := Nat.le_trans (dp_fd_le (dp_sg_le u) v) hc
    refine br_f (nI_ge (by omega) (by omega)) (dp_Xlinked (dp_ok8 H u) (by omega) (by omega) (fun e => ?_) (fun e => ?_))
    · refine br_f (by decide) (nm_r (e' := nI (v + 1)) (nI_1 v) ?_)
      have k := ih (v + 1) fs ft rm cf q (by omega) (by omega)
      have e2 : dp_sg n g u v (dp_fd (dp_sg n g u) c v) = dp_fd (dp_sg n g u) c v := if_neg (fun z => absurd e (dp_bf.mp z.2.1))
      rw [step, e2] at k
      exact k
    · refine br_t rfl (dp_Xflow00 H hu (by omega) (by omega) (fun rm cf q => ?_))
      have k := ih (v + 1) (nI u) (nI v) rm cf q (by omega) (by omega)
      rw [step] at k
      show (nI (dp_fd (dp_sg n g u) c v) ≤ nI (dp_vl n u v g) → _) ∧ (¬ nI (dp_fd (dp_sg n g u) c v) ≤ nI (dp_vl n u v g) → _)
      rcases Nat.lt_or_ge (dp_vl n u v g) (dp_fd (dp_sg n g u) c v) with y | y
      · have e2 : dp_sg n g u v (dp_fd (dp_sg n g u) c v) = dp_vl n u v g := if_pos ⟨huv, e, y⟩
        rw [e2] at k
        exact br_f (nI_ge y (by omega)) (nm_r (e' := nI (v + 1)) (nI_1 v) k)
      · have e2 : dp_sg n g u v (dp_fd (dp_sg n g u) c v) = dp_fd (dp_sg n g u) c v := if_neg (fun z => by omega)
        rw [e2] at k
        exact br_t (nI_le y (by omega)) (nm_r (e' := nI (v + 1)) (nI_1 v) k)
theorem dp_Xs20 {post : Int32 → SX → Prop} {st : Nat → Int32} {x1 x2 : Int32} (H : dp_ok n g)
    (hp : ∀ rm cf q, post (nI (dp_fd (dp_sr n g) (n - 1) n)) (nI n, x1, x2, dp_nr g, rm, cf, q, st)) :
    ∀ (d u : Nat) (fs ft : Int32) (rm cf q : Nat → Int32), u + d = n →
      wX_strength_20 post x1 x2 (d + 1) (nI (dp_fd (dp_sr n g) (n - 1) u)) (nI u) (nI n) fs ft (dp_nr g) rm cf q st := by
  have h8 := H.2.1
  intro d
  induction d with
  | zero =>
    intro u fs ft rm cf q hu
    have e : u = n := by omega
    rw [e]
    exact br_t (nI_le (Nat.le_refl _) (by omega)) (hp rm cf q)
  | succ d ih =>
    intro u fs ft rm cf q hu
    refine br_f (nI_ge (by omega) (by omega)) (nm_r (e' := nI (u + 1)) (nI_1 u) ⟨n - (u + 1) + 1, ?_⟩)
    have b9 : dp_fd (dp_sr n g) (n - 1) u ≤ n - 1 := dp_fd_le dp_sr_le u
    have k := dp_Xs35 (post := post) (J := wX_strength_20 post x1 x2 (d + 1)) (st := st) (c := dp_fd (dp_sr n g) (n - 1) u) (x1 := x1) (x2 := x2) H (by omega : u < n) (by omega)
      (fun fs ft rm cf q => ih (u + 1) fs ft rm cf q (by omega)) (n - (u + 1)) (u + 1) fs ft rm cf q (by omega) (by omega)
    rw [dp_sg0] at k
    exact k
theorem dp_Ys35 {post : Int32 → SY → Prop} {J : Int32 → Int32 → Int32 → Int32 → Int32 → (Nat → Int32) → (Nat → Int32) → (Nat → Int32) → Prop} {u c : Nat} {x1 x2 : Int32}
    (H : dp_ok n g) (hu : u < n) (hc : c ≤ 9)
    (hJ : ∀ fs ft wh mo, J (nI (dp_sr n g u c)) (nI (u + 1)) (nI n) fs ft (dp_nr g) wh mo) :
    ∀ (d v : Nat) (fs ft : Int32) (wh mo : Nat → Int32), v + d = n → u < v →
      wY_strength_35 post J x1 x2 (nI u) (d + 1) (nI (dp_fd (dp_sg n g u) c v)) (nI v) (nI n) fs ft (dp_nr g) wh mo := by
  have h8 := H.2.1
  intro d
  induction d with
  | zero =>
    intro v fs ft wh mo hv huv
    have e : v = n := by omega
    rw [e]
    exact br_t (nI_le (Nat.le_refl _) (by omega)) (nm_r (e' := nI (u + 1)) (nI_1 u) (hJ fs ft wh mo))
  | succ d ih =>
    intro v fs ft wh mo hv huv
    have step : dp_fd (dp_sg n g u) c (v + 1) = dp_sg n g u v (dp_fd (dp_sg n g u) c v) := rfl
    have a9 := dp_vl9 (s := u) (t := v) (g := g) h8
    have b9 : dp_fd (dp_sg n g u) c v ≤ 9 := Nat.le_trans (dp_fd_le (dp_sg_le u) v) hc
    refine br_f (nI_ge (by omega) (by omega)) (And.intro (vp_in_nI (by omega) (by omega)) ?_)
    rw [dp_nrE g (by omega)]
    refine dp_Yhas (by have := dp_ok8 H u; omega) (by omega) (fun e => ?_) (fun e => ?_)
    · refine br_f (by decide) (nm_r (e' := nI (v + 1)) (nI_1 v) ?_)
      have k := ih (v + 1) fs ft wh mo (by omega) (by omega)
      have e2 : dp_sg n g u v (dp_fd (dp_sg n g u) c v) = dp_fd (dp_sg n g u) c v := if_neg (fun z => absurd e (dp_bf.mp z.2.1))
      rw [step, e2] at k
      exact k
    · refine br_t rfl (dp_Ypaths H hu (by omega) (fun wh mo => ?_))
      have k := ih (v + 1) (nI u) (nI v) wh mo (by omega) (by omega)
      rw [step] at k
      show (nI (dp_fd (dp_sg n g u) c v) ≤ nI (dp_vl n u v g) → _) ∧ (¬ nI (dp_fd (dp_sg n g u) c v) ≤ nI (dp_vl n u v g) → _)
      rcases Nat.lt_or_ge (dp_vl n u v g) (dp_fd (dp_sg n g u) c v) with y | y
      · have e2 : dp_sg n g u v (dp_fd (dp_sg n g u) c v) = dp_vl n u v g := if_pos ⟨huv, e, y⟩
        rw [e2] at k
        exact br_f (nI_ge y (by omega)) (nm_r (e' := nI (v + 1)) (nI_1 v) k)
      · have e2 : dp_sg n g u v (dp_fd (dp_sg n g u) c v) = dp_fd (dp_sg n g u) c v := if_neg (fun z => by omega)
        rw [e2] at k
        exact br_t (nI_le y (by omega)) (nm_r (e' := nI (v + 1)) (nI_1 v) k)
theorem dp_Ys20 {post : Int32 → SY → Prop} {x1 x2 : Int32} (H : dp_ok n g)
    (hp : ∀ wh mo, post (nI (dp_fd (dp_sr n g) (n - 1) n)) (nI n, x1, x2, dp_nr g, wh, mo)) :
    ∀ (d u : Nat) (fs ft : Int32) (wh mo : Nat → Int32), u + d = n →
      wY_strength_20 post x1 x2 (d + 1) (nI (dp_fd (dp_sr n g) (n - 1) u)) (nI u) (nI n) fs ft (dp_nr g) wh mo := by
  have h8 := H.2.1
  intro d
  induction d with
  | zero =>
    intro u fs ft wh mo hu
    have e : u = n := by omega
    rw [e]
    exact br_t (nI_le (Nat.le_refl _) (by omega)) (hp wh mo)
  | succ d ih =>
    intro u fs ft wh mo hu
    refine br_f (nI_ge (by omega) (by omega)) (nm_r (e' := nI (u + 1)) (nI_1 u) ⟨n - (u + 1) + 1, ?_⟩)
    have b9 : dp_fd (dp_sr n g) (n - 1) u ≤ n - 1 := dp_fd_le dp_sr_le u
    have k := dp_Ys35 (post := post) (J := wY_strength_20 post x1 x2 (d + 1)) (c := dp_fd (dp_sr n g) (n - 1) u) (x1 := x1) (x2 := x2) H (by omega : u < n) (by omega)
      (fun fs ft wh mo => ih (u + 1) fs ft wh mo (by omega)) (n - (u + 1)) (u + 1) fs ft wh mo (by omega) (by omega)
    rw [dp_sg0] at k
    exact k
end
theorem i_vc_strength {k : Nat} {u : SX} {v : SY} (I : i_Rel k u v) (hk : k + 4 ≤ 2049) : wpX_strength (fun r u' => wpY_strength (fun r' v' => r' = r ∧ i_Rel (k + 4) u' v') v) u := by
  obtain ⟨n, s, t, g, rm, cf, q, st, wh, mo, H, hs, ht, hne, rfl, rfl⟩ := I
  have h1 : 1 ≤ n := Nat.le_trans (by decide) H.1
  have e1 : nI n - 1 = nI (n - 1) := pk_sub h1
  refine nm_r (e' := nI (n - 1)) e1 ⟨n + 1, dp_Xs20 H (fun rm cf q => ?_) n 0 (nI s) (nI t) rm cf q (by omega)⟩
  refine nm_r (e' := nI (n - 1)) e1 ⟨n + 1, dp_Ys20 H (fun wh mo => ?_) n 0 (nI s) (nI t) wh mo (by omega)⟩
  exact ⟨rfl, dp_rel H hs ht hne⟩
end
section
/-! distance -/
def dp_Lv (g : Nat → Nat) (s : Nat) : Nat → Nat → Prop
  | 0, v => v = s
  | i + 1, v => dp_Lv g s i v ∨ ∃ u, dp_Lv g s i u ∧ (g u).testBit v = true
theorem dp_LvM {g : Nat → Nat} {s i v : Nat} : ∀ {d : Nat}, dp_Lv g s i v → dp_Lv g s (i + d) v
  | 0, h => h
  | _ + 1, h => Or.inl (dp_LvM h)
theorem dp_LvL {g : Nat → Nat} {s i j v : Nat} (hij : i ≤ j) (h : dp_Lv g s i v) : dp_Lv g s j v := by
  have e : j = i + (j - i) := by omega
  rw [e]
  exact dp_LvM h
theorem dp_Lvn {n : Nat} {g : Nat → Nat} {s : Nat} (H : dp_ok n g) (hs : s < n) : ∀ {i v : Nat}, dp_Lv g s i v → v < n
  | 0, v, h => by
    have e : v = s := h
    rw [e]
    exact hs
  | i + 1, v, h => by
    rcases h with z | ⟨u, _, e⟩
    · exact dp_Lvn H hs z
    · exact (H.2.2.2.2 u v e).2
/-- v is at distance i -/
def dp_Ex (g : Nat → Nat) (s i v : Nat) : Prop := dp_Lv g s i v ∧ ∀ j, j < i → ¬ dp_Lv g s j v
theorem dp_ExU {g : Nat → Nat} {s i j v : Nat} (a : dp_Ex g s i v) (b : dp_Ex g s j v) : i = j := by
  rcases Nat.lt_or_ge i j with h | h
  · exact absurd a.1 (b.2 i h)
  · rcases Nat.lt_or_ge j i with h2 | h2
    · exact absurd b.1 (a.2 j h2)
    · omega
theorem dp_Ex_pre {g : Nat → Nat} {s i v : Nat} (h : dp_Ex g s (i + 1) v) : ∃ u, dp_Ex g s i u := by
  rcases h.1 with z | ⟨u, a, b⟩
  · exact absurd z (h.2 i (by omega))
  · refine ⟨u, a, fun j hj y => ?_⟩
    exact h.2 (j + 1) (by omega) (Or.inr ⟨u, y, b⟩)
theorem dp_Ex_all {g : Nat → Nat} {s : Nat} : ∀ {i v : Nat}, dp_Ex g s i v → ∀ j, j ≤ i → ∃ u, dp_Ex g s j u
  | 0, v, h, j, hj => by
    have e : j = 0 := by omega
    rw [e]
    exact ⟨v, h⟩
  | i + 1, v, h, j, hj => by
    rcases Nat.lt_or_ge j (i + 1) with z | z
    · obtain ⟨u, hu⟩ := dp_Ex_pre h
      exact dp_Ex_all hu j (by omega)
    · have e : j = i + 1 := by omega
      rw [e]
      exact ⟨v, h⟩
theorem dp_Ex_lt {n : Nat} {g : Nat → Nat} {s i v : Nat} (H : dp_ok n g) (hs : s < n) (h : dp_Ex g s i v) : i < n := by
  rcases Nat.lt_or_ge i n with z | z
  · exact z
  · exfalso
    have each : ∀ j, ∃ u, j ≤ i → dp_Ex g s j u := by
      intro j
      by_cases hj : j ≤ i
      · obtain ⟨u, hu⟩ := dp_Ex_all h j hj
        exact ⟨u, fun _ => hu⟩
      · exact ⟨0, fun y => absurd y hj⟩
    obtain ⟨a, b, hab, hb, e⟩ := dp_pig (h := fun j => Classical.choose (each j)) (n + 1) n (by omega) (fun j hj => dp_Lvn H hs (Classical.choose_spec (each j) (by omega)).1)
    have x := Classical.choose_spec (each a) (by omega)
    have y := Classical.choose_spec (each b) (by omega)
    have e' : Classical.choose (each a) = Classical.choose (each b) := e
    rw [e'] at x
    have := dp_ExU x y
    omega
section
variable {n s t : Nat} {g : Nat → Nat}
theorem dp_Yd22 {post : Int32 → Prop} {J : Int32 → Int32 → Prop} {wh mo : Nat → Int32} {i r : Nat} (H : dp_ok n g) (hs : s < n) (ht : t < n) (hr : ∀ x, r.testBit x = true ↔ dp_Lv g s i x)
    (h1 : dp_Lv g s (i + 1) t → post (nI (i + 1)))
    (hJ : ∀ r', (∀ x, r'.testBit x = true ↔ dp_Lv g s (i + 1) x) → ¬ dp_Lv g s (i + 1) t → J (nI r') (nI (i + 2))) :
    ∀ (d v r' : Nat), v + d = n → (∀ x, r'.testBit x = true ↔ (dp_Lv g s i x ∨ ∃ u, u < v ∧ dp_Lv g s i u ∧ (g u).testBit x = true)) →
      wY_distance_22 post J (nI r) (nI (i + 1)) (nI n) (nI s) (nI t) (dp_nr g) wh mo (d + 1) (nI r') (nI v) := by
  have h8 := H.2.1
  have r8 : r < 256 := dp_lt256 (fun x z => by have := dp_Lvn H hs ((hr x).mp z); omega)
  intro d
  induction d with
  | zero =>
    intro v r' hv hr'
    have r8' : r' < 256 := dp_lt256 (fun x z => by
      rcases (hr' x).mp z with y | ⟨u, _, _, e⟩
      · have := dp_Lvn H hs y; omega
      · have := (H.2.2.2.2 u x e).2; omega)
    have hL : ∀ x, r'.testBit x = true ↔ dp_Lv g s (i + 1) x := by
      intro x
      rw [hr']
      constructor
      · rintro (z | ⟨u, _, a, b⟩)
        · exact Or.inl z
        · exact Or.inr ⟨u, a, b⟩
      · rintro (z | ⟨u, a, b⟩)
        · exact Or.inl z
        · exact Or.inr ⟨u, by have := dp_Lvn H hs a; omega, a, b⟩
    refine br_t (nI_le (by omega) (by omega)) (dp_Yhas (by omega) (by omega) (fun e => ?_) (fun e => ?_))
    · exact br_f (by decide) (h1 ((hL t).mp e))
    · exact br_t rfl (nm_r (e' := nI (i + 2)) (nI_1 (i + 1)) (hJ r' hL (fun z => dp_bf.mp e ((hL t).mpr z))))
  | succ d ih =>
    intro v r' hv hr'
    refine br_f (nI_ge (by omega) (by omega)) (dp_Yhas (by omega) (by omega) (fun e => ?_) (fun e => ?_))
    · refine br_f (by decide) (And.intro (vp_in_nI (by omega) (by omega)) (nm_r (e' := nI (r' ||| g v)) ?_ (nm_r (e' := nI (v + 1)) (nI_1 v) (ih (v + 1) _ (by omega) (fun x => ?_)))))
      · rw [dp_nrE g (by omega), dp_or]
      · rw [dp_orI, hr']
        constructor
        · rintro ((z | ⟨u, a, b, c⟩) | z)
          · exact Or.inl z
          · exact Or.inr ⟨u, by omega, b, c⟩
          · exact Or.inr ⟨v, by omega, (hr v).mp e, z⟩
        · rintro (z | ⟨u, a, b, c⟩)
          · exact Or.inl (Or.inl z)
          · rcases Nat.lt_or_ge u v with y | y
            · exact Or.inl (Or.inr ⟨u, y, b, c⟩)
            · have q : u = v := by omega
              rw [q] at c
              exact Or.inr c
    · refine br_t rfl (nm_r (e' := nI (v + 1)) (nI_1 v) (ih (v + 1) _ (by omega) (fun x => ?_)))
      rw [hr']
      constructor
      · rintro (z | ⟨u, a, b, c⟩)
        · exact Or.inl z
        · exact Or.inr ⟨u, by omega, b, c⟩
      · rintro (z | ⟨u, a, b, c⟩)
        · exact Or.inl z
        · rcases Nat.lt_or_ge u v with y | y
          · exact Or.inr ⟨u, y, b, c⟩
          · have q : u = v := by omega
            rw [q] at b
            exact absurd ((hr v).mpr b) (dp_bf.mp e)
theorem dp_Yd9 {post : Int32 → Prop} {wh mo : Nat → Int32} (H : dp_ok n g) (hs : s < n) (ht : t < n)
    (h1 : ∀ i, i < n → dp_Ex g s i t → post (nI i)) (h0 : (∀ j, j < n → ¬ dp_Lv g s j t) → post (-4)) :
    ∀ (d i r : Nat), i + 1 + d = n → (∀ x, r.testBit x = true ↔ dp_Lv g s i x) → ¬ dp_Lv g s i t →
      wY_distance_9 post (nI n) (nI s) (nI t) (dp_nr g) wh mo (d + 1) (nI r) (nI (i + 1)) := by
  have h8 := H.2.1
  intro d
  induction d with
  | zero =>
    intro i r hi hr hn
    refine br_t (nI_le (by omega) (by omega)) (h0 (fun j hj z => hn (dp_LvL (by omega) z)))
  | succ d ih =>
    intro i r hi hr hn
    refine br_f (nI_ge (by omega) (by omega)) ⟨n + 1, ?_⟩
    refine dp_Yd22 (post := post) (i := i) H hs ht hr (fun z => ?_) (fun r' hr' hn' => ?_) n 0 r (by omega) (fun x => ?_)
    · exact h1 (i + 1) (by omega) ⟨z, fun j hj y => hn (dp_LvL (by omega) y)⟩
    · exact ih (i + 1) r' (by omega) hr' hn'
    · rw [hr]
      exact ⟨Or.inl, fun z => z.elim (fun y => y) (fun ⟨u, a, _⟩ => absurd a (by omega))⟩
theorem dp_Ydist {post : Int32 → Prop} {wh mo : Nat → Int32} (H : dp_ok n g) (hs : s < n) (ht : t < n) (hne : s ≠ t)
    (h1 : ∀ i, i < n → dp_Ex g s i t → post (nI i)) (h0 : (∀ j, j < n → ¬ dp_Lv g s j t) → post (-4)) :
    wpY_distance post (nI n, nI s, nI t, dp_nr g, wh, mo) := by
  have h3 := H.1
  have h8 := H.2.1
  refine nm_r (e' := nI (2 ^ s)) (dp_shl s (by omega)) ⟨n - 1 + 1, ?_⟩
  exact dp_Yd9 H hs ht h1 h0 (n - 1) 0 (2 ^ s) (by omega) (fun x => dp_pwI) (fun z => hne (Eq.symm z))
theorem dp_Xr2 {post : SX → Prop} {rm cf q : Nat → Int32} {u : Nat} {dv : Int32} (H : dp_ok n g) (hu : u < n) :
    ∀ (d v : Nat) (st : Nat → Int32), v + d = n →
      (∀ st', (∀ x, x < n → st' x = if v ≤ x ∧ (g u).testBit x = true ∧ ¬ 0 ≤ st x then dv else st x) → post (nI n, nI s, nI t, dp_nr g, rm, cf, q, st')) →
      wX_reach_2 post (nI u) dv (nI n) (nI s) (nI t) (d + 1) (nI v) (dp_nr g) rm cf q st := by
  have h8 := H.2.1
  intro d
  induction d with
  | zero =>
    intro v st hv hp
    refine br_t (nI_le (by omega) (by omega)) (hp st (fun x hx => ?_))
    rw [if_neg (fun z => by omega)]
  | succ d ih =>
    intro v st hv hp
    refine br_f (nI_ge (by omega) (by omega)) (dp_Xlinked (dp_ok8 H u) (by omega) (by omega) (fun e => ?_) (fun e => ?_))
    · refine br_f (by decide) (And.intro (vp_in_nI (by omega) (by omega)) ?_)
      rw [nI_clamp (by omega)]
      by_cases p : 0 ≤ st v
      · refine br_t p (nm_r (e' := nI (v + 1)) (nI_1 v) (ih (v + 1) st (by omega) (fun st' h => hp st' (fun x hx => ?_))))
        rw [h x hx]
        by_cases c : v ≤ x ∧ (g u).testBit x = true ∧ ¬ 0 ≤ st x
        · have ne : x ≠ v := fun y => by rw [y] at c; exact c.2.2 p
          rw [if_pos c, if_pos ⟨by omega, c.2⟩]
        · rw [if_neg c, if_neg (fun y => c ⟨by omega, y.2⟩)]
      · refine br_f p (And.intro (vp_in_nI (by omega) (by omega)) (nm_e (nm_r (e' := nI (v + 1)) (nI_1 v) (ih (v + 1) _ (by omega) (fun st' h => hp st' (fun x hx => ?_))))))
        rw [h x hx]
        by_cases ne : x = v
        · rw [ne, if_neg (fun y => by omega), pk_us, if_pos ⟨Nat.le_refl _, e, p⟩]
        · rw [pk_un ne]
          by_cases c : v ≤ x ∧ (g u).testBit x = true ∧ ¬ 0 ≤ st x
          · rw [if_pos c, if_pos ⟨by omega, c.2⟩]
          · rw [if_neg c, if_neg (fun y => c ⟨by omega, y.2⟩)]
    · refine br_t rfl (nm_r (e' := nI (v + 1)) (nI_1 v) (ih (v + 1) st (by omega) (fun st' h => hp st' (fun x hx => ?_))))
      rw [h x hx]
      by_cases c : v ≤ x ∧ (g u).testBit x = true ∧ ¬ 0 ≤ st x
      · have ne : x ≠ v := fun y => by rw [y] at c; exact dp_bf.mp e c.2.1
        rw [if_pos c, if_pos ⟨by omega, c.2⟩]
      · rw [if_neg c, if_neg (fun y => c ⟨by omega, y.2⟩)]
/-- the steps known before round k -/
def dp_SI (n : Nat) (g : Nat → Nat) (s k : Nat) (st : Nat → Int32) : Prop :=
  ∀ v, v < n → (∃ i, i ≤ k ∧ st v = nI i ∧ dp_Ex g s i v) ∨ (st v = -1 ∧ ¬ dp_Lv g s k v)
/-- .. and within round k, before vertex w -/
def dp_SJ (n : Nat) (g : Nat → Nat) (s k w : Nat) (st : Nat → Int32) : Prop :=
  ∀ v, v < n → (∃ i, i ≤ k ∧ st v = nI i ∧ dp_Ex g s i v) ∨ (st v = nI (k + 1) ∧ dp_Ex g s (k + 1) v) ∨
    (st v = -1 ∧ ¬ dp_Lv g s k v ∧ ∀ u, u < w → dp_Lv g s k u → (g u).testBit v = false)
theorem dp_Xd57 {post : Int32 → SX → Prop} {J : Int32 → Int32 → Int32 → Int32 → (Nat → Int32) → (Nat → Int32) → (Nat → Int32) → (Nat → Int32) → (Nat → Int32) → Prop} {rm cf q : Nat → Int32} {k : Nat}
    (H : dp_ok n g) (hs : s < n) (hk : k < n)
    (hJ : ∀ st, dp_SI n g s (k + 1) st → J (nI (k + 1)) (nI n) (nI s) (nI t) (dp_nr g) rm cf q st) :
    ∀ (d w : Nat) (st : Nat → Int32), w + d = n → dp_SJ n g s k w st →
      wX_distance_57 post J (nI k) (d + 1) (nI w) (nI n) (nI s) (nI t) (dp_nr g) rm cf q st := by
  have h8 := H.2.1
  have neg1 : ∀ j : Nat, j < 100 → ¬ (-1 : Int32) = nI j := by
    intro j hj e
    have a : (nI j).toInt = (-1 : Int32).toInt := by rw [← e]
    rw [nI_toInt (by omega)] at a
    have b : (-1 : Int32).toInt = -1 := by decide
    omega
  intro d
  induction d with
  | zero =>
    intro w st hw hJ2
    refine br_t (nI_le (by omega) (by omega)) (nm_r (e' := nI (k + 1)) (nI_1 k) (hJ st (fun v hv => ?_)))
    rcases hJ2 v hv with ⟨i, a, b, c⟩ | ⟨a, b⟩ | ⟨a, b, c⟩
    · exact Or.inl ⟨i, by omega, b, c⟩
    · exact Or.inl ⟨k + 1, Nat.le_refl _, a, b⟩
    · refine Or.inr ⟨a, ?_⟩
      rintro (z | ⟨u, y1, y2⟩)
      · exact b z
      · exact dp_bf.mp (c u (by have := dp_Lvn H hs y1; omega) y1) y2
  | succ d ih =>
    intro w st hw hJ2
    have skip : (∀ v, v < n → ¬ dp_Lv g s k v → dp_Lv g s k w → (g w).testBit v = false) → dp_SJ n g s k (w + 1) st := by
      intro h v hv
      rcases hJ2 v hv with a | a | ⟨a, b, c⟩
      · exact Or.inl a
      · exact Or.inr (Or.inl a)
      · refine Or.inr (Or.inr ⟨a, b, fun u hu y => ?_⟩)
        rcases Nat.lt_or_ge u w with z | z
        · exact c u z y
        · have e : u = w := by omega
          rw [e] at y ⊢
          exact h v hv b y
    have go : dp_SJ n g s k (w + 1) st → ∀ h : ¬ st w = nI k, ((st w = nI k → wpX_reach (fun u => match u with | (f_n_16, f_source_17, f_target_18, a_near_19, a_room_20, a_cameFrom_21, a_queue_22, a_steps_23) => (∀ x2_24 : Int32, x2_24 = nI w + 1 → (wX_distance_57 post J (nI k) (d + 1) x2_24 f_n_16 f_source_17 f_target_18 a_near_19 a_room_20 a_cameFrom_21 a_queue_22 a_steps_23))) (nI n, nI s, nI t, dp_nr g, rm, cf, q, st) (nI w) (nI k + 1)) ∧ (¬ st w = nI k → ∀ x2_14 : Int32, x2_14 = nI w + 1 → wX_distance_57 post J (nI k) (d + 1) x2_14 (nI n) (nI s) (nI t) (dp_nr g) rm cf q st)) :=
      fun h1 h => br_f h (nm_r (e' := nI (w + 1)) (nI_1 w) (ih (w + 1) st (by omega) h1))
    refine br_f (nI_ge (by omega) (by omega)) (And.intro (vp_in_nI (by omega) (by omega)) ?_)
    rw [nI_clamp (by omega)]
    rcases hJ2 w (by omega) with ⟨i, a, b, c⟩ | ⟨a, b⟩ | ⟨a, b, c⟩
    · by_cases e : i = k
      · refine br_t (by rw [b, e]) ⟨n + 1, ?_⟩
        rw [nI_1 k]
        refine dp_Xr2 H (by omega) n 0 st (by omega) (fun st' h => ?_)
        refine nm_r (e' := nI (w + 1)) (nI_1 w) (ih (w + 1) st' (by omega) (fun v hv => ?_))
        rw [h v hv]
        rw [e] at c
        rcases hJ2 v hv with ⟨j, y1, y2, y3⟩ | ⟨y1, y2⟩ | ⟨y1, y2, y3⟩
        · have p : 0 ≤ st v := by rw [y2]; exact nI_pos' (by omega)
          rw [if_neg (fun z => z.2.2 p)]
          exact Or.inl ⟨j, y1, y2, y3⟩
        · have p : 0 ≤ st v := by rw [y1]; exact nI_pos' (by omega)
          rw [if_neg (fun z => z.2.2 p)]
          exact Or.inr (Or.inl ⟨y1, y2⟩)
        · have p : ¬ 0 ≤ st v := by rw [y1]; decide
          by_cases ed : (g w).testBit v = true
          · rw [if_pos ⟨Nat.zero_le _, ed, p⟩]
            exact Or.inr (Or.inl ⟨rfl, Or.inr ⟨w, c.1, ed⟩, fun j hj z => y2 (dp_LvL (by omega) z)⟩)
          · rw [if_neg (fun z => ed z.2.1)]
            refine Or.inr (Or.inr ⟨y1, y2, fun u hu z => ?_⟩)
            rcases Nat.lt_or_ge u w with x | x
            · exact y3 u x z
            · have e2 : u = w := by omega
              rw [e2]
              exact dp_bf.mpr ed
      · refine go (skip (fun v hv nv _ => dp_bf.mpr (fun ed => nv (dp_LvL (i := i + 1) (by omega) (Or.inr ⟨w, c.1, ed⟩))))) ?_
        rw [b, nI_eq (by omega) (by omega)]
        exact e
    · refine go (skip (fun v hv nv y => absurd y (b.2 k (by omega)))) ?_
      rw [a, nI_eq (by omega) (by omega)]
      omega
    · refine go (skip (fun v hv nv y => absurd y b)) ?_
      rw [a]
      exact neg1 k (by omega)
theorem dp_Xd95 {post : Int32 → SX → Prop} {rm cf q st : Nat → Int32} {k : Nat} (H : dp_ok n g) (hs : s < n) (ht : t < n) (hk : k ≤ n) (hS : dp_SI n g s k st) (hd : k = n ∨ 0 ≤ st t)
    (h1 : ∀ i st, i < n → dp_Ex g s i t → post (nI i) (nI n, nI s, nI t, dp_nr g, rm, cf, q, st)) (h0 : ∀ st, (∀ j, j < n → ¬ dp_Lv g s j t) → post (-4) (nI n, nI s, nI t, dp_nr g, rm, cf, q, st)) :
    wX_distance_95 post (nI n) (nI s) (nI t) (dp_nr g) rm cf q st := by
  have h8 := H.2.1
  have it : vp_in (nI t) 8 := vp_in_nI (by omega) (by omega)
  unfold wX_distance_95
  refine And.intro it ?_
  rw [nI_clamp (by omega)]
  rcases hS t ht with ⟨i, a, b, c⟩ | ⟨a, b⟩
  · refine br_t ?_ (And.intro it ?_)
    · rw [b]
      exact nI_pos' (by omega)
    · rw [b]
      exact h1 i st (dp_Ex_lt H hs c) c
  · have p : ¬ 0 ≤ st t := by rw [a]; decide
    refine br_f p (h0 st (fun j hj z => ?_))
    rcases hd with e | e
    · exact b (dp_LvL (by omega) z)
    · exact p e
theorem dp_Xd35 {post : Int32 → SX → Prop} {rm cf q : Nat → Int32} (H : dp_ok n g) (hs : s < n) (ht : t < n)
    (h1 : ∀ i st, i < n → dp_Ex g s i t → post (nI i) (nI n, nI s, nI t, dp_nr g, rm, cf, q, st)) (h0 : ∀ st, (∀ j, j < n → ¬ dp_Lv g s j t) → post (-4) (nI n, nI s, nI t, dp_nr g, rm, cf, q, st)) :
    ∀ (d k : Nat) (st : Nat → Int32), k + d = n → dp_SI n g s k st → wX_distance_35 post (d + 1) (nI k) (nI n) (nI s) (nI t) (dp_nr g) rm cf q st := by
  have h8 := H.2.1
  intro d
  induction d with
  | zero =>
    intro k st hk hS
    exact br_t (nI_le (by omega) (by omega)) (dp_Xd95 H hs ht (by omega) hS (Or.inl (by omega)) h1 h0)
  | succ d ih =>
    intro k st hk hS
    refine br_f (nI_ge (by omega) (by omega)) (And.intro (vp_in_nI (by omega) (by omega)) ?_)
    by_cases p : 0 ≤ st (nI t).toNatClampNeg
    · refine br_t p ?_
      rw [nI_clamp (by omega)] at p
      exact dp_Xd95 H hs ht (by omega) hS (Or.inr p) h1 h0
    · refine br_f p ⟨n + 1, dp_Xd57 (post := post) H hs (by omega) (fun st hS => ih (k + 1) st (by omega) hS) n 0 st (by omega) (fun v hv => ?_)⟩
      rcases hS v hv with a | ⟨a, b⟩
      · exact Or.inl a
      · exact Or.inr (Or.inr ⟨a, b, fun u hu => absurd hu (by omega)⟩)
theorem dp_Xd2 {post : Int32 → SX → Prop} {rm cf q : Nat → Int32} (H : dp_ok n g) (hs : s < n) (ht : t < n)
    (h1 : ∀ i st, i < n → dp_Ex g s i t → post (nI i) (nI n, nI s, nI t, dp_nr g, rm, cf, q, st)) (h0 : ∀ st, (∀ j, j < n → ¬ dp_Lv g s j t) → post (-4) (nI n, nI s, nI t, dp_nr g, rm, cf, q, st)) :
    ∀ (d i : Nat) (st : Nat → Int32), i + d = n → (∀ j, j < i → st j = -1) → wX_distance_2 post (nI n) (nI s) (nI t) (d + 1) (nI i) (dp_nr g) rm cf q st := by
  have h8 := H.2.1
  intro d
  induction d with
  | zero =>
    intro i st hi hj
    refine br_t (nI_le (by omega) (by omega)) (And.intro (vp_in_nI (by omega) (by omega)) (nm_e ⟨n + 1, dp_Xd35 H hs ht h1 h0 n 0 _ (by omega) (fun v hv => ?_)⟩))
    rw [nI_clamp (by omega)]
    by_cases e : v = s
    · refine Or.inl ⟨0, Nat.le_refl _, ?_, e, fun j hj => absurd hj (by omega)⟩
      rw [e, pk_us]
      rfl
    · refine Or.inr ⟨?_, e⟩
      rw [pk_un e]
      exact hj v (by omega)
  | succ d ih =>
    intro i st hi hj
    refine br_f (nI_ge (by omega) (by omega)) (And.intro (vp_in_nI (by omega) (by omega)) (nm_e (nm_r (e' := nI (i + 1)) (nI_1 i) (ih (i + 1) _ (by omega) (fun j hj2 => ?_)))))
    rw [nI_clamp (by omega)]
    by_cases e : j = i
    · rw [e, pk_us]
    · rw [pk_un e]; exact hj j (by omega)
end
theorem i_vc_distance {k : Nat} {u : SX} {v : SY} (I : i_Rel k u v) (hk : k + 4 ≤ 2049) : wpX_distance (fun r u' => wpY_distance (fun r' => r' = r ∧ i_Rel (k + 4) u' v) v) u := by
  obtain ⟨n, s, t, g, rm, cf, q, st, wh, mo, H, hs, ht, hne, rfl, rfl⟩ := I
  refine ⟨n + 1, dp_Xd2 H hs ht (fun i st hi hE => ?_) (fun st hN => ?_) n 0 st (by omega) (fun j hj => absurd hj (by omega))⟩
  · refine dp_Ydist H hs ht hne (fun j _ hE2 => ?_) (fun hN => absurd hE.1 (hN i hi))
    exact ⟨by rw [dp_ExU hE hE2], dp_rel H hs ht hne⟩
  · refine dp_Ydist H hs ht hne (fun j hj hE2 => absurd hE2.1 (hN j hj)) (fun _ => ?_)
    exact ⟨rfl, dp_rel H hs ht hne⟩
end
section
/-! clear -/
theorem dp_smX {f : Nat → Nat} {n : Nat} (h : ∀ i, n ≤ i → f i = 0) : ∀ d : Nat, dp_sm f (n + d) = dp_sm f n
  | 0 => rfl
  | d + 1 => by
    show dp_sm f (n + d) + f (n + d) = dp_sm f n
    rw [dp_smX h d, h (n + d) (by omega), Nat.add_zero]
theorem dp_smX8 {f : Nat → Nat} {n : Nat} (hn : n ≤ 8) (h : ∀ i, n ≤ i → f i = 0) : dp_sm f n = dp_sm f 8 := by
  have e := dp_smX h (8 - n)
  have e2 : n + (8 - n) = 8 := by omega
  rw [e2] at e
  exact e.symm
def dp_ce (g : Nat → Nat) (u x : Nat) : Nat := if u < x then ((g u).testBit x).toNat else 0
section
variable {n : Nat} {g : Nat → Nat}
theorem dp_hand (H : dp_ok n g) : dp_sm (fun v => dp_cd (g v)) n = 2 * dp_sm (fun u => dp_sm (dp_ce g u) n) n := by
  obtain ⟨h3, h8, sym, irr, bnd⟩ := H
  have z0 : ∀ u x, (n ≤ u ∨ n ≤ x) → (g u).testBit x = false := by
    intro u x h
    rw [dp_bf]
    intro e
    have := bnd u x e
    omega
  have ez : ∀ u x, (n ≤ u ∨ n ≤ x) → dp_ce g u x = 0 := by
    intro u x h
    unfold dp_ce
    rw [z0 u x h]
    exact ite_self 0
  have e1 : dp_sm (fun v => dp_cd (g v)) n = dp_sm (fun v => dp_cd (g v)) 8 := dp_smX8 h8 (fun i hi => dp_sm0 (fun x _ => by rw [z0 i x (Or.inl hi)]; rfl))
  have e2 : dp_sm (fun u => dp_sm (dp_ce g u) n) n = dp_sm (fun u => dp_sm (dp_ce g u) 8) 8 := by
    rw [dp_smX8 (f := fun u => dp_sm (dp_ce g u) n) h8 (fun i hi => dp_sm0 (fun x _ => ez i x (Or.inl hi)))]
    apply dp_smC
    intro u _
    exact dp_smX8 h8 (fun x hx => ez u x (Or.inr hx))
  have e3 : dp_sm (fun v => dp_cd (g v)) 8 = dp_sm (fun v => dp_sm (fun x => dp_ce g v x) 8 + dp_sm (fun x => dp_ce g x v) 8) 8 := by
    apply dp_smC
    intro v _
    rw [← dp_smA]
    apply dp_smC
    intro x _
    unfold dp_ce
    rcases Nat.lt_or_ge v x with y | y
    · rw [if_pos y, if_neg (by omega)]
      rfl
    · rcases Nat.lt_or_ge x v with y2 | y2
      · rw [if_neg (by omega), if_pos y2, sym v x, Nat.zero_add]
      · have e : x = v := by omega
        rw [e, irr, if_neg (by omega)]
        rfl
  have e4 : dp_sm (fun v => dp_sm (fun x => dp_ce g x v) 8) 8 = dp_sm (fun v => dp_sm (fun x => dp_ce g v x) 8) 8 := dp_smW (fun v x => dp_ce g x v) 8 8
  rw [e1, e2, e3, dp_smA, e4]
  show dp_sm (fun v => dp_sm (dp_ce g v) 8) 8 + dp_sm (fun v => dp_sm (dp_ce g v) 8) 8 = _
  omega
def dp_cl (g : Nat → Nat) (i : Nat) : Nat → Nat := fun w => if w < i then 0 else g w
theorem dp_cl0 : dp_cl g 0 = g := by
  funext w
  exact if_neg (by omega)
theorem dp_cln (H : dp_ok n g) : dp_cl g n = fun _ => 0 := by
  funext w
  unfold dp_cl
  by_cases e : w < n
  · rw [if_pos e]
  · rw [if_neg e]
    apply dp_ext
    intro i
    rw [Nat.zero_testBit]
    exact ⟨fun z => by have := (H.2.2.2.2 w i z).1; omega, fun z => absurd z (by decide)⟩
theorem dp_clS (i : Nat) : upd (dp_nr (dp_cl g i)) i 0 = dp_nr (dp_cl g (i + 1)) := by
  funext w
  unfold upd dp_nr dp_cl
  by_cases e : w = i
  · rw [if_pos e, if_pos (by omega)]
    rfl
  · rw [if_neg e]
    by_cases e2 : w < i
    · rw [if_pos e2, if_pos (by omega)]
    · rw [if_neg e2, if_neg (by omega)]
variable {fs ft : Int32} {rm cf q st wh mo : Nat → Int32}
theorem dp_Xc51 {post : Int32 → SX → Prop} {x1 : Int32} (H : dp_ok n g) (hp : post x1 (nI n, fs, ft, dp_nr (fun _ => 0), rm, cf, q, st)) :
    ∀ d i : Nat, i + d = n → wX_clear_51 post x1 (nI n) fs ft (d + 1) (nI i) (dp_nr (dp_cl g i)) rm cf q st := by
  have h8 := H.2.1
  intro d
  induction d with
  | zero =>
    intro i hi
    have e : i = n := by omega
    rw [e, dp_cln H]
    exact br_t (nI_le (Nat.le_refl _) (by omega)) hp
  | succ d ih =>
    intro i hi
    refine br_f (nI_ge (by omega) (by omega)) (And.intro (vp_in_nI (by omega) (by omega)) (nm_r (e' := dp_nr (dp_cl g (i + 1))) ?_ (nm_r (e' := nI (i + 1)) (nI_1 i) (ih (i + 1) (by omega)))))
    rw [nI_clamp (by omega), dp_clS]
theorem dp_Xc16 {post : Int32 → SX → Prop} {J : Int32 → Int32 → Prop} {u c : Nat} (H : dp_ok n g) (hu : u < n) (hJ : J (nI (c + dp_sm (dp_ce g u) n)) (nI (u + 1))) :
    ∀ d v : Nat, v + d = n → u < v → wX_clear_16 post J (nI u) (nI n) fs ft (dp_nr g) rm cf q st (d + 1) (nI (c + dp_sm (dp_ce g u) v)) (nI v) := by
  have h8 := H.2.1
  intro d
  induction d with
  | zero =>
    intro v hv huv
    have e : v = n := by omega
    rw [e]
    exact br_t (nI_le (Nat.le_refl _) (by omega)) (nm_r (e' := nI (u + 1)) (nI_1 u) hJ)
  | succ d ih =>
    intro v hv huv
    refine br_f (nI_ge (by omega) (by omega)) (And.intro (vp_in_nI (by omega) (by omega)) (nm_r (e' := nI (c + dp_sm (dp_ce g u) (v + 1))) ?_ (nm_r (e' := nI (v + 1)) (nI_1 v) (ih (v + 1) (by omega) (by omega)))))
    have g8 := dp_ok8 H u
    rw [dp_nrE g (by omega), dp_bit (by omega) (by omega), nI_add]
    have e : dp_ce g u v = ((g u).testBit v).toNat := if_pos huv
    show nI _ = nI (c + (dp_sm (dp_ce g u) v + dp_ce g u v))
    rw [e, Nat.add_assoc]
theorem dp_Xc4 {post : Int32 → SX → Prop} (H : dp_ok n g) (hp : post (nI (dp_sm (fun u => dp_sm (dp_ce g u) n) n)) (nI n, fs, ft, dp_nr (fun _ => 0), rm, cf, q, st)) :
    ∀ d u : Nat, u + d = n → wX_clear_4 post (nI n) fs ft (dp_nr g) rm cf q st (d + 1) (nI (dp_sm (fun u => dp_sm (dp_ce g u) n) u)) (nI u) := by
  have h8 := H.2.1
  intro d
  induction d with
  | zero =>
    intro u hu
    have e : u = n := by omega
    rw [e]
    have k := dp_Xc51 H hp n 0 (by omega)
    rw [dp_cl0] at k
    exact br_t (nI_le (Nat.le_refl _) (by omega)) ⟨n + 1, k⟩
  | succ d ih =>
    intro u hu
    refine br_f (nI_ge (by omega) (by omega)) (nm_r (e' := nI (u + 1)) (nI_1 u) ⟨n - (u + 1) + 1, ?_⟩)
    have k := dp_Xc16 (post := post) (J := wX_clear_4 post (nI n) fs ft (dp_nr g) rm cf q st (d + 1)) (fs := fs) (ft := ft) (rm := rm) (cf := cf) (q := q) (st := st) (c := dp_sm (fun u => dp_sm (dp_ce g u) n) u) H (by omega : u < n)
      (ih (u + 1) (by omega)) (n - (u + 1)) (u + 1) (by omega) (by omega)
    have e : dp_sm (dp_ce g u) (u + 1) = 0 := dp_sm0 (fun x hx => if_neg (by omega))
    rw [e, Nat.add_zero] at k
    exact k
theorem dp_Yc4 {post : Int32 → SY → Prop} (H : dp_ok n g) (hp : post (nI (dp_sm (fun u => dp_sm (dp_ce g u) n) n)) (nI n, fs, ft, dp_nr (fun _ => 0), wh, mo)) :
    ∀ d i : Nat, i + d = n → wY_clear_4 post (nI n) fs ft (d + 1) (nI (dp_sm (fun v => dp_cd (g v)) i)) (nI i) (dp_nr (dp_cl g i)) wh mo := by
  have h8 := H.2.1
  intro d
  induction d with
  | zero =>
    intro i hi
    have e : i = n := by omega
    rw [e, dp_cln H]
    refine br_t (nI_le (Nat.le_refl _) (by omega)) (And.intro (by decide) ?_)
    have b : dp_sm (fun v => dp_cd (g v)) n ≤ dp_sm (fun _ => 8) n := dp_smL (fun v _ => dp_cd8 _)
    rw [dp_smK] at b
    have dv : nI (dp_sm (fun v => dp_cd (g v)) n) / 2 = nI (dp_sm (fun v => dp_cd (g v)) n / 2) := pk_div (d := 2) (by omega) (by omega) (by omega)
    rw [dv, dp_hand H]
    have e2 : 2 * dp_sm (fun u => dp_sm (dp_ce g u) n) n / 2 = dp_sm (fun u => dp_sm (dp_ce g u) n) n := by omega
    rw [e2]
    exact hp
  | succ d ih =>
    intro i hi
    have e : dp_nr (dp_cl g i) (nI i).toNatClampNeg = nI (g i) := by
      rw [dp_nrE _ (by omega)]
      unfold dp_cl
      rw [if_neg (by omega)]
    refine br_f (nI_ge (by omega) (by omega)) (And.intro (vp_in_nI (by omega) (by omega)) ?_)
    rw [e]
    refine dp_Ysize (dp_ok8 H i) ?_
    refine nm_r (e' := nI (dp_sm (fun v => dp_cd (g v)) (i + 1))) (nI_add _ _) (And.intro (vp_in_nI (by omega) (by omega)) (nm_r (e' := dp_nr (dp_cl g (i + 1))) ?_ (nm_r (e' := nI (i + 1)) (nI_1 i) (ih (i + 1) (by omega)))))
    rw [nI_clamp (by omega), dp_clS]
end
theorem i_vc_clear {k : Nat} {u : SX} {v : SY} (I : i_Rel k u v) (hk : k + 4 ≤ 2049) : wpX_clear (fun r u' => wpY_clear (fun r' v' => r' = r ∧ i_Rel (k + 4) u' v') v) u := by
  obtain ⟨n, s, t, g, rm, cf, q, st, wh, mo, H, hs, ht, hne, rfl, rfl⟩ := I
  refine ⟨n + 1, dp_Xc4 H ?_ n 0 (by omega)⟩
  have k := dp_Yc4 (post := fun r' v' => r' = nI (dp_sm (fun u => dp_sm (dp_ce g u) n) n) ∧ i_Rel (k + 4) (nI n, nI s, nI t, dp_nr (fun _ => 0), rm, cf, q, st) v') (fs := nI s) (ft := nI t) (wh := wh) (mo := mo) H
    ⟨rfl, dp_rel (dp_ok0 H.1 H.2.1) hs ht hne⟩ n 0 (by omega)
  rw [dp_cl0] at k
  exact ⟨n + 1, k⟩
end
