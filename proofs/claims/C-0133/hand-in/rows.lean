section
/-! pure rows to paste: stores, nI and lN arithmetic, masks, shifts, narrowing, branches by naturals (pk_le, pk_lt, pk_eq), loops (lp1 .. lp16: the measure of the state; rp1 ..: recursion), negatives. Take what you need -/
theorem pk_us {f : Nat → Int32} {k : Nat} {x : Int32} : upd f k x k = x := if_pos rfl
theorem pk_un {f : Nat → Int32} {k j : Nat} {x : Int32} (h : j ≠ k) : upd f k x j = f j := if_neg h
theorem pk_uLs {f : Nat → Int64} {k : Nat} {x : Int64} : vp_updL f k x k = x := if_pos rfl
theorem pk_uLn {f : Nat → Int64} {k j : Nat} {x : Int64} (h : j ≠ k) : vp_updL f k x j = f j := if_neg h
theorem pk_sub {a b : Nat} (h : b ≤ a) : nI a - nI b = nI (a - b) := by
  obtain ⟨c, rfl⟩ : ∃ c, a = c + b := ⟨a - b, by omega⟩
  rw [← nI_add, Int32.add_sub_cancel, Nat.add_sub_cancel]
theorem pk_m1 (n : Nat) : nI (n + 1) + (-1) = nI n := by
  rw [← nI_1, Int32.add_assoc, show (1 : Int32) + (-1) = 0 from rfl, Int32.add_zero]
theorem pk_mul (a b : Nat) : nI a * nI b = nI (a * b) := (Int32.ofNat_mul a b).symm
theorem pk_div {a d : Nat} (ha : a < 2 ^ 31) (h0 : 0 < d) (hd : d < 2 ^ 31) : nI a / nI d = nI (a / d) := by
  apply Int32.toInt_inj.mp
  rw [lg_idiv_nonneg (by rw [nI_toInt ha]; omega) (by rw [nI_toInt hd]; omega), nI_toInt ha, nI_toInt hd, nI_toInt (Nat.lt_of_le_of_lt (Nat.div_le_self a d) ha)]
  first | rfl | exact (Int.natCast_ediv _ _).symm
theorem pk_rem {a d : Nat} (ha : a < 2 ^ 31) (h0 : 0 < d) (hd : d < 2 ^ 31) : nI a - nI a / nI d * nI d = nI (a % d) := by
  rw [pk_div ha h0 hd, pk_mul, pk_sub (Nat.div_mul_le_self a d)]
  exact congrArg nI (by have := Nat.div_add_mod' a d; omega)
theorem pk_sub_toInt {a b : Nat} (ha : a < 2 ^ 30) (hb : b < 2 ^ 30) : (nI a - nI b).toInt = (a : Int) - b := by
  rw [Int32.toInt_sub, nI_toInt (by omega), nI_toInt (by omega)]
  exact Int.bmod_eq_of_le (by omega) (by omega)
theorem pk_sneg {a b : Nat} (hb : b < 2 ^ 30) (h : a < b) : nI a - nI b < 0 := by
  rw [Int32.lt_iff_toInt_lt, pk_sub_toInt (by omega) hb, show (0 : Int32).toInt = 0 from by decide]
  omega
theorem pk_ix (x : Int32) {n : Nat} (hn : n < 2 ^ 31) : x < 0 ∨ nI n ≤ x ∨ ∃ j : Nat, j < n ∧ x = nI j := by
  by_cases h : x < 0
  · exact Or.inl h
  · obtain ⟨j, hj, rfl⟩ := nI_of h
    by_cases h2 : j < n
    · exact Or.inr (Or.inr ⟨j, h2, rfl⟩)
    · exact Or.inr (Or.inl (nI_le (by omega) hj))
theorem pk_le {x y : Int32} {A B : Prop} (a b : Nat) (f : a ≤ b → A) (g : b < a → B) (hx : x = nI a := by rfl) (hy : y = nI b := by rfl) (ha : a < 2 ^ 31 := by omega) (hb : b < 2 ^ 31 := by omega) : (x ≤ y → A) ∧ (¬ x ≤ y → B) := by
  subst hx hy
  rw [nI_leI ha hb]
  exact ⟨f, fun z => g (by omega)⟩
theorem pk_lt {x y : Int32} {A B : Prop} (a b : Nat) (f : a < b → A) (g : b ≤ a → B) (hx : x = nI a := by rfl) (hy : y = nI b := by rfl) (ha : a < 2 ^ 31 := by omega) (hb : b < 2 ^ 31 := by omega) : (x < y → A) ∧ (¬ x < y → B) := by
  subst hx hy
  rw [nI_ltI ha hb]
  exact ⟨f, fun z => g (by omega)⟩
theorem pk_eq {x y : Int32} {A B : Prop} (a b : Nat) (f : a = b → A) (g : a ≠ b → B) (hx : x = nI a := by rfl) (hy : y = nI b := by rfl) (ha : a < 2 ^ 31 := by omega) (hb : b < 2 ^ 31 := by omega) : (x = y → A) ∧ (¬ x = y → B) := by
  subst hx hy
  rw [nI_eq ha hb]
  exact ⟨f, g⟩
theorem pk_in {x : Int32} (n N : Nat) (h : n < N) (hx : x = nI n := by rfl) (hN : N < 2 ^ 31 := by omega) : vp_in x N := by
  subst hx
  exact vp_in_nI h hN
theorem pk_cl {x : Int32} (n : Nat) (hx : x = nI n := by rfl) (h : n < 2 ^ 31 := by omega) : x.toNatClampNeg = n := by
  subst hx
  exact nI_clamp h
theorem pk_tn {n : Nat} (h : n < 2 ^ 32) : (nI n).toBitVec.toNat = n := Nat.mod_eq_of_lt h
theorem pk_and (x : Int32) {m : Int32} (k : Nat) (hm : m.toBitVec.toNat = 2 ^ k - 1) : x &&& m = nI (x.toBitVec.toNat % 2 ^ k) := by
  apply Int32.toBitVec_inj.mp
  apply BitVec.eq_of_toNat_eq
  rw [Int32.toBitVec_and, BitVec.toNat_and, hm, Nat.and_two_pow_sub_one_eq_mod]
  show _ = (BitVec.ofNat 32 _).toNat
  rw [BitVec.toNat_ofNat]
  exact (Nat.mod_eq_of_lt (Nat.lt_of_le_of_lt (Nat.mod_le _ _) x.toBitVec.isLt)).symm
theorem pk_andN {n : Nat} (h : n < 2 ^ 32) {m : Int32} (k : Nat) (hm : m.toBitVec.toNat = 2 ^ k - 1) : nI n &&& m = nI (n % 2 ^ k) := by
  rw [pk_and _ k hm, pk_tn h]
theorem pk_andE (x : Int32) {m : Int32} (k : Nat) (hm : m.toBitVec.toNat = 2 ^ k - 1) : ∃ j : Nat, j < 2 ^ k ∧ x &&& m = nI j := ⟨_, Nat.mod_lt _ (Nat.two_pow_pos k), pk_and x k hm⟩
theorem pk_andIn (x : Int32) {m : Int32} (k : Nat) (hm : m.toBitVec.toNat = 2 ^ k - 1) (hk : k ≤ 30) : vp_in (x &&& m) (2 ^ k) := by
  obtain ⟨j, hj, e⟩ := pk_andE x k hm
  rw [e]
  exact vp_in_nI hj (Nat.lt_of_le_of_lt (Nat.pow_le_pow_right (by decide) hk) (by decide))
theorem pk_shl (a s : Int32) (k : Nat) (hs : (s.toBitVec.smod 32).toNat = k) : (a <<< s).toBitVec.toNat = a.toBitVec.toNat * 2 ^ k % 2 ^ 32 := by
  show (a.toBitVec <<< (s.toBitVec.smod 32).toNat).toNat = _
  rw [hs, BitVec.toNat_shiftLeft, Nat.shiftLeft_eq]
theorem pk_shlN {n : Nat} (s : Int32) (k : Nat) (hs : (s.toBitVec.smod 32).toNat = k) (h : n * 2 ^ k < 2 ^ 32) : nI n <<< s = nI (n * 2 ^ k) := by
  apply Int32.toBitVec_inj.mp
  apply BitVec.eq_of_toNat_eq
  have hn : n < 2 ^ 32 := Nat.lt_of_le_of_lt (Nat.le_mul_of_pos_right n (Nat.two_pow_pos k)) h
  rw [pk_shl _ _ k hs, pk_tn hn, pk_tn h, Nat.mod_eq_of_lt h]
theorem pk_shr (a s : Int32) (k : Nat) (hs : (s.toBitVec.smod 32).toNat = k) : (a >>> s).toInt = a.toInt >>> k := by
  show (a.toBitVec.sshiftRight (s.toBitVec.smod 32).toNat).toInt = _
  rw [hs, BitVec.toInt_sshiftRight]
  rfl
theorem pk_shrN {n : Nat} (h : n < 2 ^ 31) (s : Int32) (k : Nat) (hs : (s.toBitVec.smod 32).toNat = k) : nI n >>> s = nI (n / 2 ^ k) := by
  apply Int32.toInt_inj.mp
  have h2 : n / 2 ^ k ≤ n := Nat.div_le_self _ _
  rw [pk_shr _ _ k hs, nI_toInt h, nI_toInt (by omega), Int.shiftRight_eq_div_pow]
  rfl
theorem pk_ushr (x s : Int32) (k : Nat) (hs : ((s.toUInt32 &&& Int32.toUInt32 31).toBitVec % 32).toNat = k) : (x.toUInt32 >>> (s.toUInt32 &&& Int32.toUInt32 31)).toInt32.toBitVec.toNat = x.toBitVec.toNat / 2 ^ k := by
  have e : (x.toUInt32 >>> (s.toUInt32 &&& Int32.toUInt32 31)).toInt32.toBitVec = x.toBitVec >>> k := by
    rw [← hs]
    exact UInt32.toBitVec_shiftRight _ _
  rw [e, BitVec.toNat_ushiftRight, Nat.shiftRight_eq_div_pow]
theorem pk_ushrN {n : Nat} (hn : n < 2 ^ 32) (s : Int32) (k : Nat) (hs : ((s.toUInt32 &&& Int32.toUInt32 31).toBitVec % 32).toNat = k) : ((nI n).toUInt32 >>> (s.toUInt32 &&& Int32.toUInt32 31)).toInt32 = nI (n / 2 ^ k) := by
  apply Int32.toBitVec_inj.mp
  apply BitVec.eq_of_toNat_eq
  rw [pk_ushr _ s k hs, pk_tn hn, pk_tn (Nat.lt_of_le_of_lt (Nat.div_le_self _ _) hn)]
theorem pk_nb (z : Int32) : narrow .byte (.int z.toInt8.toInt32) = .int z.toInt8.toInt32 := congrArg Value.int (by simp)
theorem pk_ns (z : Int32) : narrow .short (.int z.toInt16.toInt32) = .int z.toInt16.toInt32 := congrArg Value.int (by simp)
theorem pk_fb (r : Int32) : fits .byte (.int r.toInt8.toInt32) = true := by
  have ⟨a, b⟩ := lg_i2b_range r
  have h1 : (-128 : Int32).toInt = -128 := by decide
  have h2 : (127 : Int32).toInt = 127 := by decide
  simp only [fits, Bool.and_eq_true, decide_eq_true_eq, Int32.le_iff_toInt_le, h1, h2]
  omega
theorem pk_fs (r : Int32) : fits .short (.int r.toInt16.toInt32) = true := by
  have ⟨a, b⟩ := lg_i2s_range r
  have h1 : (-32768 : Int32).toInt = -32768 := by decide
  have h2 : (32767 : Int32).toInt = 32767 := by decide
  simp only [fits, Bool.and_eq_true, decide_eq_true_eq, Int32.le_iff_toInt_le, h1, h2]
  omega
theorem pk_charN {q : Nat} (hq : q < 65536) : narrow .char (.int (nI q)) = .int (nI q) ∧ fits .char (.int (nI q)) = true := by
  constructor
  · have e : (nI q).toUInt32.toUInt16.toUInt32.toInt32 = nI q := by
      apply Int32.toBitVec_inj.mp
      apply BitVec.eq_of_toNat_eq
      show (nI q).toUInt32.toUInt16.toUInt32.toNat = q % 2 ^ 32
      rw [UInt16.toNat_toUInt32, UInt32.toNat_toUInt16, show (nI q).toUInt32.toNat = q % 2 ^ 32 from rfl]
      omega
    exact congrArg Value.int e
  · have a : (0 : Int32) ≤ nI q := nI_pos' (by omega)
    have b : nI q ≤ 65535 := nI_le (b := 65535) (by omega) (by decide)
    show (decide ((0 : Int32) ≤ nI q) && decide (nI q ≤ 65535)) = true
    rw [decide_eq_true a, decide_eq_true b]
    rfl
theorem pk_char (x : Int32) : (x.toUInt32 % 65536).toInt32 = nI (x.toBitVec.toNat % 65536) := by
  apply Int32.toBitVec_inj.mp
  apply BitVec.eq_of_toNat_eq
  rw [pk_tn (by omega)]
  show (x.toUInt32 % 65536).toNat = _
  rw [UInt32.toNat_mod]
  rfl
theorem pk_nc (x : Int32) : narrow .char (.int (x.toUInt32 % 65536).toInt32) = .int (x.toUInt32 % 65536).toInt32 := by
  rw [pk_char]
  exact (pk_charN (Nat.mod_lt _ (by decide))).1
theorem pk_fc (x : Int32) : fits .char (.int (x.toUInt32 % 65536).toInt32) = true := by
  rw [pk_char]
  exact (pk_charN (Nat.mod_lt _ (by decide))).2
theorem pk_vb (z : Int32) : vp_nar .byte z.toInt8.toInt32 = z.toInt8.toInt32 := by rw [vp_nar_byte]; simp
theorem pk_vs (z : Int32) : vp_nar .short z.toInt16.toInt32 = z.toInt16.toInt32 := by rw [vp_nar_short]; simp
theorem pk_vc (z : Int32) : vp_nar .char (z.toUInt32 % 65536).toInt32 = (z.toUInt32 % 65536).toInt32 := Value.int.inj (pk_nc z)
theorem pk_lT {n : Nat} (h : n < 2 ^ 63) : (lN n).toInt = (n : Int) := lg_ofNat_toInt h
theorem pk_lLT {a b : Nat} (ha : a < 2 ^ 63) (hb : b < 2 ^ 63) : lN a < lN b ↔ a < b := by
  rw [Int64.lt_iff_toInt_lt, pk_lT ha, pk_lT hb]; omega
theorem pk_lLE {a b : Nat} (ha : a < 2 ^ 63) (hb : b < 2 ^ 63) : lN a ≤ lN b ↔ a ≤ b := by
  rw [Int64.le_iff_toInt_le, pk_lT ha, pk_lT hb]; omega
theorem pk_lEQ {a b : Nat} (ha : a < 2 ^ 63) (hb : b < 2 ^ 63) : lN a = lN b ↔ a = b := by
  rw [← Int64.toInt_inj, pk_lT ha, pk_lT hb]; omega
theorem pk_lOf {x : Int64} (h : ¬ x < 0) : ∃ k : Nat, k < 2 ^ 63 ∧ x = lN k := by
  rw [Int64.lt_iff_toInt_lt] at h
  have h0 : (0 : Int64).toInt = 0 := by decide
  have hx := Int64.toInt_lt x
  refine ⟨x.toInt.toNat, by omega, Int64.toInt_inj.mp ?_⟩
  rw [pk_lT (by omega)]
  omega
theorem pk_lDiv {a b : Nat} (ha : a < 2 ^ 63) (h0 : 0 < b) (hb : b < 2 ^ 63) : lN a / lN b = lN (a / b) := by
  apply Int64.toInt_inj.mp
  rw [lg_ldiv_nonneg (by rw [pk_lT ha]; omega) (by rw [pk_lT hb]; omega), pk_lT ha, pk_lT hb, pk_lT (Nat.lt_of_le_of_lt (Nat.div_le_self a b) ha)]
  rfl
theorem pk_lRem {a b : Nat} (ha : a < 2 ^ 63) (h0 : 0 < b) (hb : b < 2 ^ 63) : lN a - lN a / lN b * lN b = lN (a % b) := by
  rw [pk_lDiv ha h0 hb, lN_mul, lN_sub (Nat.div_mul_le_self a b)]
  exact congrArg lN (by have := Nat.div_add_mod' a b; omega)
theorem pk_loop {σ : Type} (W : Nat → Nat → σ → Prop) (I : Nat → σ → Prop) (e i0 : Nat) (s : σ) (hi : i0 ≤ e) (h0 : I i0 s) (hx : ∀ n s, I e s → W (n + 1) e s)
    (hs : ∀ n i s, i < e → I i s → (∀ s', I (i + 1) s' → W n (i + 1) s') → W (n + 1) i s) : ∃ n, W n i0 s :=
  ⟨e + 1, loop_i W I e hx hs (e + 1) i0 s hi (by omega) h0⟩
theorem pk_loopD {σ : Type} (W : Nat → Nat → σ → Prop) (I : Nat → σ → Prop) (hx : ∀ n s, I 0 s → W (n + 1) 0 s)
    (hs : ∀ n i s, I (i + 1) s → (∀ s', I i s' → W n i s') → W (n + 1) (i + 1) s) : ∀ (e : Nat) (s : σ), I e s → W (e + 1) e s := by
  intro e
  induction e with
  | zero => exact fun s h => hx 0 s h
  | succ e ih => exact fun s h => hs (e + 1) e s h (fun s' h' => ih s' h')
theorem lp1 {A1 : Type} (W : Nat → A1 → Prop) (I : A1 → Prop) (μ : A1 → Nat) (hs : ∀ (n : Nat) (a1 : A1), I a1 → (∀ (b1 : A1), I b1 → μ b1 < μ a1 → W n b1) → W (n + 1) a1) (a1 : A1) (h : I a1) : ∃ n, W n a1 :=
  loop_m (σ := A1) (fun n s => W n s) (fun s => I s) (fun s => μ s) (fun n s hI hk => hs n s hI (fun b1 h9 hm => hk b1 h9 hm)) a1 h
theorem lp2 {A1 A2 : Type} (W : Nat → A1 → A2 → Prop) (I : A1 → A2 → Prop) (μ : A1 → A2 → Nat) (hs : ∀ (n : Nat) (a1 : A1) (a2 : A2), I a1 a2 → (∀ (b1 : A1) (b2 : A2), I b1 b2 → μ b1 b2 < μ a1 a2 → W n b1 b2) → W (n + 1) a1 a2) (a1 : A1) (a2 : A2) (h : I a1 a2) : ∃ n, W n a1 a2 :=
  loop_m (σ := A1 × A2) (fun n s => W n s.1 s.2) (fun s => I s.1 s.2) (fun s => μ s.1 s.2) (fun n s hI hk => hs n s.1 s.2 hI (fun b1 b2 h9 hm => hk (b1, b2) h9 hm)) (a1, a2) h
theorem lp3 {A1 A2 A3 : Type} (W : Nat → A1 → A2 → A3 → Prop) (I : A1 → A2 → A3 → Prop) (μ : A1 → A2 → A3 → Nat) (hs : ∀ (n : Nat) (a1 : A1) (a2 : A2) (a3 : A3), I a1 a2 a3 → (∀ (b1 : A1) (b2 : A2) (b3 : A3), I b1 b2 b3 → μ b1 b2 b3 < μ a1 a2 a3 → W n b1 b2 b3) → W (n + 1) a1 a2 a3) (a1 : A1) (a2 : A2) (a3 : A3) (h : I a1 a2 a3) : ∃ n, W n a1 a2 a3 :=
  loop_m (σ := A1 × A2 × A3) (fun n s => W n s.1 s.2.1 s.2.2) (fun s => I s.1 s.2.1 s.2.2) (fun s => μ s.1 s.2.1 s.2.2) (fun n s hI hk => hs n s.1 s.2.1 s.2.2 hI (fun b1 b2 b3 h9 hm => hk (b1, b2, b3) h9 hm)) (a1, a2, a3) h
theorem lp4 {A1 A2 A3 A4 : Type} (W : Nat → A1 → A2 → A3 → A4 → Prop) (I : A1 → A2 → A3 → A4 → Prop) (μ : A1 → A2 → A3 → A4 → Nat) (hs : ∀ (n : Nat) (a1 : A1) (a2 : A2) (a3 : A3) (a4 : A4), I a1 a2 a3 a4 → (∀ (b1 : A1) (b2 : A2) (b3 : A3) (b4 : A4), I b1 b2 b3 b4 → μ b1 b2 b3 b4 < μ a1 a2 a3 a4 → W n b1 b2 b3 b4) → W (n + 1) a1 a2 a3 a4) (a1 : A1) (a2 : A2) (a3 : A3) (a4 : A4) (h : I a1 a2 a3 a4) : ∃ n, W n a1 a2 a3 a4 :=
  loop_m (σ := A1 × A2 × A3 × A4) (fun n s => W n s.1 s.2.1 s.2.2.1 s.2.2.2) (fun s => I s.1 s.2.1 s.2.2.1 s.2.2.2) (fun s => μ s.1 s.2.1 s.2.2.1 s.2.2.2) (fun n s hI hk => hs n s.1 s.2.1 s.2.2.1 s.2.2.2 hI (fun b1 b2 b3 b4 h9 hm => hk (b1, b2, b3, b4) h9 hm)) (a1, a2, a3, a4) h
theorem lp5 {A1 A2 A3 A4 A5 : Type} (W : Nat → A1 → A2 → A3 → A4 → A5 → Prop) (I : A1 → A2 → A3 → A4 → A5 → Prop) (μ : A1 → A2 → A3 → A4 → A5 → Nat) (hs : ∀ (n : Nat) (a1 : A1) (a2 : A2) (a3 : A3) (a4 : A4) (a5 : A5), I a1 a2 a3 a4 a5 → (∀ (b1 : A1) (b2 : A2) (b3 : A3) (b4 : A4) (b5 : A5), I b1 b2 b3 b4 b5 → μ b1 b2 b3 b4 b5 < μ a1 a2 a3 a4 a5 → W n b1 b2 b3 b4 b5) → W (n + 1) a1 a2 a3 a4 a5) (a1 : A1) (a2 : A2) (a3 : A3) (a4 : A4) (a5 : A5) (h : I a1 a2 a3 a4 a5) : ∃ n, W n a1 a2 a3 a4 a5 :=
  loop_m (σ := A1 × A2 × A3 × A4 × A5) (fun n s => W n s.1 s.2.1 s.2.2.1 s.2.2.2.1 s.2.2.2.2) (fun s => I s.1 s.2.1 s.2.2.1 s.2.2.2.1 s.2.2.2.2) (fun s => μ s.1 s.2.1 s.2.2.1 s.2.2.2.1 s.2.2.2.2) (fun n s hI hk => hs n s.1 s.2.1 s.2.2.1 s.2.2.2.1 s.2.2.2.2 hI (fun b1 b2 b3 b4 b5 h9 hm => hk (b1, b2, b3, b4, b5) h9 hm)) (a1, a2, a3, a4, a5) h
theorem lp6 {A1 A2 A3 A4 A5 A6 : Type} (W : Nat → A1 → A2 → A3 → A4 → A5 → A6 → Prop) (I : A1 → A2 → A3 → A4 → A5 → A6 → Prop) (μ : A1 → A2 → A3 → A4 → A5 → A6 → Nat) (hs : ∀ (n : Nat) (a1 : A1) (a2 : A2) (a3 : A3) (a4 : A4) (a5 : A5) (a6 : A6), I a1 a2 a3 a4 a5 a6 → (∀ (b1 : A1) (b2 : A2) (b3 : A3) (b4 : A4) (b5 : A5) (b6 : A6), I b1 b2 b3 b4 b5 b6 → μ b1 b2 b3 b4 b5 b6 < μ a1 a2 a3 a4 a5 a6 → W n b1 b2 b3 b4 b5 b6) → W (n + 1) a1 a2 a3 a4 a5 a6) (a1 : A1) (a2 : A2) (a3 : A3) (a4 : A4) (a5 : A5) (a6 : A6) (h : I a1 a2 a3 a4 a5 a6) : ∃ n, W n a1 a2 a3 a4 a5 a6 :=
  loop_m (σ := A1 × A2 × A3 × A4 × A5 × A6) (fun n s => W n s.1 s.2.1 s.2.2.1 s.2.2.2.1 s.2.2.2.2.1 s.2.2.2.2.2) (fun s => I s.1 s.2.1 s.2.2.1 s.2.2.2.1 s.2.2.2.2.1 s.2.2.2.2.2) (fun s => μ s.1 s.2.1 s.2.2.1 s.2.2.2.1 s.2.2.2.2.1 s.2.2.2.2.2) (fun n s hI hk => hs n s.1 s.2.1 s.2.2.1 s.2.2.2.1 s.2.2.2.2.1 s.2.2.2.2.2 hI (fun b1 b2 b3 b4 b5 b6 h9 hm => hk (b1, b2, b3, b4, b5, b6) h9 hm)) (a1, a2, a3, a4, a5, a6) h
theorem lp7 {A1 A2 A3 A4 A5 A6 A7 : Type} (W : Nat → A1 → A2 → A3 → A4 → A5 → A6 → A7 → Prop) (I : A1 → A2 → A3 → A4 → A5 → A6 → A7 → Prop) (μ : A1 → A2 → A3 → A4 → A5 → A6 → A7 → Nat) (hs : ∀ (n : Nat) (a1 : A1) (a2 : A2) (a3 : A3) (a4 : A4) (a5 : A5) (a6 : A6) (a7 : A7), I a1 a2 a3 a4 a5 a6 a7 → (∀ (b1 : A1) (b2 : A2) (b3 : A3) (b4 : A4) (b5 : A5) (b6 : A6) (b7 : A7), I b1 b2 b3 b4 b5 b6 b7 → μ b1 b2 b3 b4 b5 b6 b7 < μ a1 a2 a3 a4 a5 a6 a7 → W n b1 b2 b3 b4 b5 b6 b7) → W (n + 1) a1 a2 a3 a4 a5 a6 a7) (a1 : A1) (a2 : A2) (a3 : A3) (a4 : A4) (a5 : A5) (a6 : A6) (a7 : A7) (h : I a1 a2 a3 a4 a5 a6 a7) : ∃ n, W n a1 a2 a3 a4 a5 a6 a7 :=
  loop_m (σ := A1 × A2 × A3 × A4 × A5 × A6 × A7) (fun n s => W n s.1 s.2.1 s.2.2.1 s.2.2.2.1 s.2.2.2.2.1 s.2.2.2.2.2.1 s.2.2.2.2.2.2) (fun s => I s.1 s.2.1 s.2.2.1 s.2.2.2.1 s.2.2.2.2.1 s.2.2.2.2.2.1 s.2.2.2.2.2.2) (fun s => μ s.1 s.2.1 s.2.2.1 s.2.2.2.1 s.2.2.2.2.1 s.2.2.2.2.2.1 s.2.2.2.2.2.2) (fun n s hI hk => hs n s.1 s.2.1 s.2.2.1 s.2.2.2.1 s.2.2.2.2.1 s.2.2.2.2.2.1 s.2.2.2.2.2.2 hI (fun b1 b2 b3 b4 b5 b6 b7 h9 hm => hk (b1, b2, b3, b4, b5, b6, b7) h9 hm)) (a1, a2, a3, a4, a5, a6, a7) h
theorem lp8 {A1 A2 A3 A4 A5 A6 A7 A8 : Type} (W : Nat → A1 → A2 → A3 → A4 → A5 → A6 → A7 → A8 → Prop) (I : A1 → A2 → A3 → A4 → A5 → A6 → A7 → A8 → Prop) (μ : A1 → A2 → A3 → A4 → A5 → A6 → A7 → A8 → Nat) (hs : ∀ (n : Nat) (a1 : A1) (a2 : A2) (a3 : A3) (a4 : A4) (a5 : A5) (a6 : A6) (a7 : A7) (a8 : A8), I a1 a2 a3 a4 a5 a6 a7 a8 → (∀ (b1 : A1) (b2 : A2) (b3 : A3) (b4 : A4) (b5 : A5) (b6 : A6) (b7 : A7) (b8 : A8), I b1 b2 b3 b4 b5 b6 b7 b8 → μ b1 b2 b3 b4 b5 b6 b7 b8 < μ a1 a2 a3 a4 a5 a6 a7 a8 → W n b1 b2 b3 b4 b5 b6 b7 b8) → W (n + 1) a1 a2 a3 a4 a5 a6 a7 a8) (a1 : A1) (a2 : A2) (a3 : A3) (a4 : A4) (a5 : A5) (a6 : A6) (a7 : A7) (a8 : A8) (h : I a1 a2 a3 a4 a5 a6 a7 a8) : ∃ n, W n a1 a2 a3 a4 a5 a6 a7 a8 :=
  loop_m (σ := A1 × A2 × A3 × A4 × A5 × A6 × A7 × A8) (fun n s => W n s.1 s.2.1 s.2.2.1 s.2.2.2.1 s.2.2.2.2.1 s.2.2.2.2.2.1 s.2.2.2.2.2.2.1 s.2.2.2.2.2.2.2) (fun s => I s.1 s.2.1 s.2.2.1 s.2.2.2.1 s.2.2.2.2.1 s.2.2.2.2.2.1 s.2.2.2.2.2.2.1 s.2.2.2.2.2.2.2) (fun s => μ s.1 s.2.1 s.2.2.1 s.2.2.2.1 s.2.2.2.2.1 s.2.2.2.2.2.1 s.2.2.2.2.2.2.1 s.2.2.2.2.2.2.2) (fun n s hI hk => hs n s.1 s.2.1 s.2.2.1 s.2.2.2.1 s.2.2.2.2.1 s.2.2.2.2.2.1 s.2.2.2.2.2.2.1 s.2.2.2.2.2.2.2 hI (fun b1 b2 b3 b4 b5 b6 b7 b8 h9 hm => hk (b1, b2, b3, b4, b5, b6, b7, b8) h9 hm)) (a1, a2, a3, a4, a5, a6, a7, a8) h
theorem lp9 {A1 A2 A3 A4 A5 A6 A7 A8 A9 : Type} (W : Nat → A1 → A2 → A3 → A4 → A5 → A6 → A7 → A8 → A9 → Prop) (I : A1 → A2 → A3 → A4 → A5 → A6 → A7 → A8 → A9 → Prop) (μ : A1 → A2 → A3 → A4 → A5 → A6 → A7 → A8 → A9 → Nat) (hs : ∀ (n : Nat) (a1 : A1) (a2 : A2) (a3 : A3) (a4 : A4) (a5 : A5) (a6 : A6) (a7 : A7) (a8 : A8) (a9 : A9), I a1 a2 a3 a4 a5 a6 a7 a8 a9 → (∀ (b1 : A1) (b2 : A2) (b3 : A3) (b4 : A4) (b5 : A5) (b6 : A6) (b7 : A7) (b8 : A8) (b9 : A9), I b1 b2 b3 b4 b5 b6 b7 b8 b9 → μ b1 b2 b3 b4 b5 b6 b7 b8 b9 < μ a1 a2 a3 a4 a5 a6 a7 a8 a9 → W n b1 b2 b3 b4 b5 b6 b7 b8 b9) → W (n + 1) a1 a2 a3 a4 a5 a6 a7 a8 a9) (a1 : A1) (a2 : A2) (a3 : A3) (a4 : A4) (a5 : A5) (a6 : A6) (a7 : A7) (a8 : A8) (a9 : A9) (h : I a1 a2 a3 a4 a5 a6 a7 a8 a9) : ∃ n, W n a1 a2 a3 a4 a5 a6 a7 a8 a9 :=
  loop_m (σ := A1 × A2 × A3 × A4 × A5 × A6 × A7 × A8 × A9) (fun n s => W n s.1 s.2.1 s.2.2.1 s.2.2.2.1 s.2.2.2.2.1 s.2.2.2.2.2.1 s.2.2.2.2.2.2.1 s.2.2.2.2.2.2.2.1 s.2.2.2.2.2.2.2.2) (fun s => I s.1 s.2.1 s.2.2.1 s.2.2.2.1 s.2.2.2.2.1 s.2.2.2.2.2.1 s.2.2.2.2.2.2.1 s.2.2.2.2.2.2.2.1 s.2.2.2.2.2.2.2.2) (fun s => μ s.1 s.2.1 s.2.2.1 s.2.2.2.1 s.2.2.2.2.1 s.2.2.2.2.2.1 s.2.2.2.2.2.2.1 s.2.2.2.2.2.2.2.1 s.2.2.2.2.2.2.2.2) (fun n s hI hk => hs n s.1 s.2.1 s.2.2.1 s.2.2.2.1 s.2.2.2.2.1 s.2.2.2.2.2.1 s.2.2.2.2.2.2.1 s.2.2.2.2.2.2.2.1 s.2.2.2.2.2.2.2.2 hI (fun b1 b2 b3 b4 b5 b6 b7 b8 b9 h9 hm => hk (b1, b2, b3, b4, b5, b6, b7, b8, b9) h9 hm)) (a1, a2, a3, a4, a5, a6, a7, a8, a9) h
theorem lp10 {A1 A2 A3 A4 A5 A6 A7 A8 A9 A10 : Type} (W : Nat → A1 → A2 → A3 → A4 → A5 → A6 → A7 → A8 → A9 → A10 → Prop) (I : A1 → A2 → A3 → A4 → A5 → A6 → A7 → A8 → A9 → A10 → Prop) (μ : A1 → A2 → A3 → A4 → A5 → A6 → A7 → A8 → A9 → A10 → Nat) (hs : ∀ (n : Nat) (a1 : A1) (a2 : A2) (a3 : A3) (a4 : A4) (a5 : A5) (a6 : A6) (a7 : A7) (a8 : A8) (a9 : A9) (a10 : A10), I a1 a2 a3 a4 a5 a6 a7 a8 a9 a10 → (∀ (b1 : A1) (b2 : A2) (b3 : A3) (b4 : A4) (b5 : A5) (b6 : A6) (b7 : A7) (b8 : A8) (b9 : A9) (b10 : A10), I b1 b2 b3 b4 b5 b6 b7 b8 b9 b10 → μ b1 b2 b3 b4 b5 b6 b7 b8 b9 b10 < μ a1 a2 a3 a4 a5 a6 a7 a8 a9 a10 → W n b1 b2 b3 b4 b5 b6 b7 b8 b9 b10) → W (n + 1) a1 a2 a3 a4 a5 a6 a7 a8 a9 a10) (a1 : A1) (a2 : A2) (a3 : A3) (a4 : A4) (a5 : A5) (a6 : A6) (a7 : A7) (a8 : A8) (a9 : A9) (a10 : A10) (h : I a1 a2 a3 a4 a5 a6 a7 a8 a9 a10) : ∃ n, W n a1 a2 a3 a4 a5 a6 a7 a8 a9 a10 :=
  loop_m (σ := A1 × A2 × A3 × A4 × A5 × A6 × A7 × A8 × A9 × A10) (fun n s => W n s.1 s.2.1 s.2.2.1 s.2.2.2.1 s.2.2.2.2.1 s.2.2.2.2.2.1 s.2.2.2.2.2.2.1 s.2.2.2.2.2.2.2.1 s.2.2.2.2.2.2.2.2.1 s.2.2.2.2.2.2.2.2.2) (fun s => I s.1 s.2.1 s.2.2.1 s.2.2.2.1 s.2.2.2.2.1 s.2.2.2.2.2.1 s.2.2.2.2.2.2.1 s.2.2.2.2.2.2.2.1 s.2.2.2.2.2.2.2.2.1 s.2.2.2.2.2.2.2.2.2) (fun s => μ s.1 s.2.1 s.2.2.1 s.2.2.2.1 s.2.2.2.2.1 s.2.2.2.2.2.1 s.2.2.2.2.2.2.1 s.2.2.2.2.2.2.2.1 s.2.2.2.2.2.2.2.2.1 s.2.2.2.2.2.2.2.2.2) (fun n s hI hk => hs n s.1 s.2.1 s.2.2.1 s.2.2.2.1 s.2.2.2.2.1 s.2.2.2.2.2.1 s.2.2.2.2.2.2.1 s.2.2.2.2.2.2.2.1 s.2.2.2.2.2.2.2.2.1 s.2.2.2.2.2.2.2.2.2 hI (fun b1 b2 b3 b4 b5 b6 b7 b8 b9 b10 h9 hm => hk (b1, b2, b3, b4, b5, b6, b7, b8, b9, b10) h9 hm)) (a1, a2, a3, a4, a5, a6, a7, a8, a9, a10) h
theorem lp11 {A1 A2 A3 A4 A5 A6 A7 A8 A9 A10 A11 : Type} (W : Nat → A1 → A2 → A3 → A4 → A5 → A6 → A7 → A8 → A9 → A10 → A11 → Prop) (I : A1 → A2 → A3 → A4 → A5 → A6 → A7 → A8 → A9 → A10 → A11 → Prop) (μ : A1 → A2 → A3 → A4 → A5 → A6 → A7 → A8 → A9 → A10 → A11 → Nat) (hs : ∀ (n : Nat) (a1 : A1) (a2 : A2) (a3 : A3) (a4 : A4) (a5 : A5) (a6 : A6) (a7 : A7) (a8 : A8) (a9 : A9) (a10 : A10) (a11 : A11), I a1 a2 a3 a4 a5 a6 a7 a8 a9 a10 a11 → (∀ (b1 : A1) (b2 : A2) (b3 : A3) (b4 : A4) (b5 : A5) (b6 : A6) (b7 : A7) (b8 : A8) (b9 : A9) (b10 : A10) (b11 : A11), I b1 b2 b3 b4 b5 b6 b7 b8 b9 b10 b11 → μ b1 b2 b3 b4 b5 b6 b7 b8 b9 b10 b11 < μ a1 a2 a3 a4 a5 a6 a7 a8 a9 a10 a11 → W n b1 b2 b3 b4 b5 b6 b7 b8 b9 b10 b11) → W (n + 1) a1 a2 a3 a4 a5 a6 a7 a8 a9 a10 a11) (a1 : A1) (a2 : A2) (a3 : A3) (a4 : A4) (a5 : A5) (a6 : A6) (a7 : A7) (a8 : A8) (a9 : A9) (a10 : A10) (a11 : A11) (h : I a1 a2 a3 a4 a5 a6 a7 a8 a9 a10 a11) : ∃ n, W n a1 a2 a3 a4 a5 a6 a7 a8 a9 a10 a11 :=
  loop_m (σ := A1 × A2 × A3 × A4 × A5 × A6 × A7 × A8 × A9 × A10 × A11) (fun n s => W n s.1 s.2.1 s.2.2.1 s.2.2.2.1 s.2.2.2.2.1 s.2.2.2.2.2.1 s.2.2.2.2.2.2.1 s.2.2.2.2.2.2.2.1 s.2.2.2.2.2.2.2.2.1 s.2.2.2.2.2.2.2.2.2.1 s.2.2.2.2.2.2.2.2.2.2) (fun s => I s.1 s.2.1 s.2.2.1 s.2.2.2.1 s.2.2.2.2.1 s.2.2.2.2.2.1 s.2.2.2.2.2.2.1 s.2.2.2.2.2.2.2.1 s.2.2.2.2.2.2.2.2.1 s.2.2.2.2.2.2.2.2.2.1 s.2.2.2.2.2.2.2.2.2.2) (fun s => μ s.1 s.2.1 s.2.2.1 s.2.2.2.1 s.2.2.2.2.1 s.2.2.2.2.2.1 s.2.2.2.2.2.2.1 s.2.2.2.2.2.2.2.1 s.2.2.2.2.2.2.2.2.1 s.2.2.2.2.2.2.2.2.2.1 s.2.2.2.2.2.2.2.2.2.2) (fun n s hI hk => hs n s.1 s.2.1 s.2.2.1 s.2.2.2.1 s.2.2.2.2.1 s.2.2.2.2.2.1 s.2.2.2.2.2.2.1 s.2.2.2.2.2.2.2.1 s.2.2.2.2.2.2.2.2.1 s.2.2.2.2.2.2.2.2.2.1 s.2.2.2.2.2.2.2.2.2.2 hI (fun b1 b2 b3 b4 b5 b6 b7 b8 b9 b10 b11 h9 hm => hk (b1, b2, b3, b4, b5, b6, b7, b8, b9, b10, b11) h9 hm)) (a1, a2, a3, a4, a5, a6, a7, a8, a9, a10, a11) h
theorem lp12 {A1 A2 A3 A4 A5 A6 A7 A8 A9 A10 A11 A12 : Type} (W : Nat → A1 → A2 → A3 → A4 → A5 → A6 → A7 → A8 → A9 → A10 → A11 → A12 → Prop) (I : A1 → A2 → A3 → A4 → A5 → A6 → A7 → A8 → A9 → A10 → A11 → A12 → Prop) (μ : A1 → A2 → A3 → A4 → A5 → A6 → A7 → A8 → A9 → A10 → A11 → A12 → Nat) (hs : ∀ (n : Nat) (a1 : A1) (a2 : A2) (a3 : A3) (a4 : A4) (a5 : A5) (a6 : A6) (a7 : A7) (a8 : A8) (a9 : A9) (a10 : A10) (a11 : A11) (a12 : A12), I a1 a2 a3 a4 a5 a6 a7 a8 a9 a10 a11 a12 → (∀ (b1 : A1) (b2 : A2) (b3 : A3) (b4 : A4) (b5 : A5) (b6 : A6) (b7 : A7) (b8 : A8) (b9 : A9) (b10 : A10) (b11 : A11) (b12 : A12), I b1 b2 b3 b4 b5 b6 b7 b8 b9 b10 b11 b12 → μ b1 b2 b3 b4 b5 b6 b7 b8 b9 b10 b11 b12 < μ a1 a2 a3 a4 a5 a6 a7 a8 a9 a10 a11 a12 → W n b1 b2 b3 b4 b5 b6 b7 b8 b9 b10 b11 b12) → W (n + 1) a1 a2 a3 a4 a5 a6 a7 a8 a9 a10 a11 a12) (a1 : A1) (a2 : A2) (a3 : A3) (a4 : A4) (a5 : A5) (a6 : A6) (a7 : A7) (a8 : A8) (a9 : A9) (a10 : A10) (a11 : A11) (a12 : A12) (h : I a1 a2 a3 a4 a5 a6 a7 a8 a9 a10 a11 a12) : ∃ n, W n a1 a2 a3 a4 a5 a6 a7 a8 a9 a10 a11 a12 :=
  loop_m (σ := A1 × A2 × A3 × A4 × A5 × A6 × A7 × A8 × A9 × A10 × A11 × A12) (fun n s => W n s.1 s.2.1 s.2.2.1 s.2.2.2.1 s.2.2.2.2.1 s.2.2.2.2.2.1 s.2.2.2.2.2.2.1 s.2.2.2.2.2.2.2.1 s.2.2.2.2.2.2.2.2.1 s.2.2.2.2.2.2.2.2.2.1 s.2.2.2.2.2.2.2.2.2.2.1 s.2.2.2.2.2.2.2.2.2.2.2) (fun s => I s.1 s.2.1 s.2.2.1 s.2.2.2.1 s.2.2.2.2.1 s.2.2.2.2.2.1 s.2.2.2.2.2.2.1 s.2.2.2.2.2.2.2.1 s.2.2.2.2.2.2.2.2.1 s.2.2.2.2.2.2.2.2.2.1 s.2.2.2.2.2.2.2.2.2.2.1 s.2.2.2.2.2.2.2.2.2.2.2) (fun s => μ s.1 s.2.1 s.2.2.1 s.2.2.2.1 s.2.2.2.2.1 s.2.2.2.2.2.1 s.2.2.2.2.2.2.1 s.2.2.2.2.2.2.2.1 s.2.2.2.2.2.2.2.2.1 s.2.2.2.2.2.2.2.2.2.1 s.2.2.2.2.2.2.2.2.2.2.1 s.2.2.2.2.2.2.2.2.2.2.2) (fun n s hI hk => hs n s.1 s.2.1 s.2.2.1 s.2.2.2.1 s.2.2.2.2.1 s.2.2.2.2.2.1 s.2.2.2.2.2.2.1 s.2.2.2.2.2.2.2.1 s.2.2.2.2.2.2.2.2.1 s.2.2.2.2.2.2.2.2.2.1 s.2.2.2.2.2.2.2.2.2.2.1 s.2.2.2.2.2.2.2.2.2.2.2 hI (fun b1 b2 b3 b4 b5 b6 b7 b8 b9 b10 b11 b12 h9 hm => hk (b1, b2, b3, b4, b5, b6, b7, b8, b9, b10, b11, b12) h9 hm)) (a1, a2, a3, a4, a5, a6, a7, a8, a9, a10, a11, a12) h
theorem lp13 {A1 A2 A3 A4 A5 A6 A7 A8 A9 A10 A11 A12 A13 : Type} (W : Nat → A1 → A2 → A3 → A4 → A5 → A6 → A7 → A8 → A9 → A10 → A11 → A12 → A13 → Prop) (I : A1 → A2 → A3 → A4 → A5 → A6 → A7 → A8 → A9 → A10 → A11 → A12 → A13 → Prop) (μ : A1 → A2 → A3 → A4 → A5 → A6 → A7 → A8 → A9 → A10 → A11 → A12 → A13 → Nat) (hs : ∀ (n : Nat) (a1 : A1) (a2 : A2) (a3 : A3) (a4 : A4) (a5 : A5) (a6 : A6) (a7 : A7) (a8 : A8) (a9 : A9) (a10 : A10) (a11 : A11) (a12 : A12) (a13 : A13), I a1 a2 a3 a4 a5 a6 a7 a8 a9 a10 a11 a12 a13 → (∀ (b1 : A1) (b2 : A2) (b3 : A3) (b4 : A4) (b5 : A5) (b6 : A6) (b7 : A7) (b8 : A8) (b9 : A9) (b10 : A10) (b11 : A11) (b12 : A12) (b13 : A13), I b1 b2 b3 b4 b5 b6 b7 b8 b9 b10 b11 b12 b13 → μ b1 b2 b3 b4 b5 b6 b7 b8 b9 b10 b11 b12 b13 < μ a1 a2 a3 a4 a5 a6 a7 a8 a9 a10 a11 a12 a13 → W n b1 b2 b3 b4 b5 b6 b7 b8 b9 b10 b11 b12 b13) → W (n + 1) a1 a2 a3 a4 a5 a6 a7 a8 a9 a10 a11 a12 a13) (a1 : A1) (a2 : A2) (a3 : A3) (a4 : A4) (a5 : A5) (a6 : A6) (a7 : A7) (a8 : A8) (a9 : A9) (a10 : A10) (a11 : A11) (a12 : A12) (a13 : A13) (h : I a1 a2 a3 a4 a5 a6 a7 a8 a9 a10 a11 a12 a13) : ∃ n, W n a1 a2 a3 a4 a5 a6 a7 a8 a9 a10 a11 a12 a13 :=
  loop_m (σ := A1 × A2 × A3 × A4 × A5 × A6 × A7 × A8 × A9 × A10 × A11 × A12 × A13) (fun n s => W n s.1 s.2.1 s.2.2.1 s.2.2.2.1 s.2.2.2.2.1 s.2.2.2.2.2.1 s.2.2.2.2.2.2.1 s.2.2.2.2.2.2.2.1 s.2.2.2.2.2.2.2.2.1 s.2.2.2.2.2.2.2.2.2.1 s.2.2.2.2.2.2.2.2.2.2.1 s.2.2.2.2.2.2.2.2.2.2.2.1 s.2.2.2.2.2.2.2.2.2.2.2.2) (fun s => I s.1 s.2.1 s.2.2.1 s.2.2.2.1 s.2.2.2.2.1 s.2.2.2.2.2.1 s.2.2.2.2.2.2.1 s.2.2.2.2.2.2.2.1 s.2.2.2.2.2.2.2.2.1 s.2.2.2.2.2.2.2.2.2.1 s.2.2.2.2.2.2.2.2.2.2.1 s.2.2.2.2.2.2.2.2.2.2.2.1 s.2.2.2.2.2.2.2.2.2.2.2.2) (fun s => μ s.1 s.2.1 s.2.2.1 s.2.2.2.1 s.2.2.2.2.1 s.2.2.2.2.2.1 s.2.2.2.2.2.2.1 s.2.2.2.2.2.2.2.1 s.2.2.2.2.2.2.2.2.1 s.2.2.2.2.2.2.2.2.2.1 s.2.2.2.2.2.2.2.2.2.2.1 s.2.2.2.2.2.2.2.2.2.2.2.1 s.2.2.2.2.2.2.2.2.2.2.2.2) (fun n s hI hk => hs n s.1 s.2.1 s.2.2.1 s.2.2.2.1 s.2.2.2.2.1 s.2.2.2.2.2.1 s.2.2.2.2.2.2.1 s.2.2.2.2.2.2.2.1 s.2.2.2.2.2.2.2.2.1 s.2.2.2.2.2.2.2.2.2.1 s.2.2.2.2.2.2.2.2.2.2.1 s.2.2.2.2.2.2.2.2.2.2.2.1 s.2.2.2.2.2.2.2.2.2.2.2.2 hI (fun b1 b2 b3 b4 b5 b6 b7 b8 b9 b10 b11 b12 b13 h9 hm => hk (b1, b2, b3, b4, b5, b6, b7, b8, b9, b10, b11, b12, b13) h9 hm)) (a1, a2, a3, a4, a5, a6, a7, a8, a9, a10, a11, a12, a13) h
theorem lp14 {A1 A2 A3 A4 A5 A6 A7 A8 A9 A10 A11 A12 A13 A14 : Type} (W : Nat → A1 → A2 → A3 → A4 → A5 → A6 → A7 → A8 → A9 → A10 → A11 → A12 → A13 → A14 → Prop) (I : A1 → A2 → A3 → A4 → A5 → A6 → A7 → A8 → A9 → A10 → A11 → A12 → A13 → A14 → Prop) (μ : A1 → A2 → A3 → A4 → A5 → A6 → A7 → A8 → A9 → A10 → A11 → A12 → A13 → A14 → Nat) (hs : ∀ (n : Nat) (a1 : A1) (a2 : A2) (a3 : A3) (a4 : A4) (a5 : A5) (a6 : A6) (a7 : A7) (a8 : A8) (a9 : A9) (a10 : A10) (a11 : A11) (a12 : A12) (a13 : A13) (a14 : A14), I a1 a2 a3 a4 a5 a6 a7 a8 a9 a10 a11 a12 a13 a14 → (∀ (b1 : A1) (b2 : A2) (b3 : A3) (b4 : A4) (b5 : A5) (b6 : A6) (b7 : A7) (b8 : A8) (b9 : A9) (b10 : A10) (b11 : A11) (b12 : A12) (b13 : A13) (b14 : A14), I b1 b2 b3 b4 b5 b6 b7 b8 b9 b10 b11 b12 b13 b14 → μ b1 b2 b3 b4 b5 b6 b7 b8 b9 b10 b11 b12 b13 b14 < μ a1 a2 a3 a4 a5 a6 a7 a8 a9 a10 a11 a12 a13 a14 → W n b1 b2 b3 b4 b5 b6 b7 b8 b9 b10 b11 b12 b13 b14) → W (n + 1) a1 a2 a3 a4 a5 a6 a7 a8 a9 a10 a11 a12 a13 a14) (a1 : A1) (a2 : A2) (a3 : A3) (a4 : A4) (a5 : A5) (a6 : A6) (a7 : A7) (a8 : A8) (a9 : A9) (a10 : A10) (a11 : A11) (a12 : A12) (a13 : A13) (a14 : A14) (h : I a1 a2 a3 a4 a5 a6 a7 a8 a9 a10 a11 a12 a13 a14) : ∃ n, W n a1 a2 a3 a4 a5 a6 a7 a8 a9 a10 a11 a12 a13 a14 :=
  loop_m (σ := A1 × A2 × A3 × A4 × A5 × A6 × A7 × A8 × A9 × A10 × A11 × A12 × A13 × A14) (fun n s => W n s.1 s.2.1 s.2.2.1 s.2.2.2.1 s.2.2.2.2.1 s.2.2.2.2.2.1 s.2.2.2.2.2.2.1 s.2.2.2.2.2.2.2.1 s.2.2.2.2.2.2.2.2.1 s.2.2.2.2.2.2.2.2.2.1 s.2.2.2.2.2.2.2.2.2.2.1 s.2.2.2.2.2.2.2.2.2.2.2.1 s.2.2.2.2.2.2.2.2.2.2.2.2.1 s.2.2.2.2.2.2.2.2.2.2.2.2.2) (fun s => I s.1 s.2.1 s.2.2.1 s.2.2.2.1 s.2.2.2.2.1 s.2.2.2.2.2.1 s.2.2.2.2.2.2.1 s.2.2.2.2.2.2.2.1 s.2.2.2.2.2.2.2.2.1 s.2.2.2.2.2.2.2.2.2.1 s.2.2.2.2.2.2.2.2.2.2.1 s.2.2.2.2.2.2.2.2.2.2.2.1 s.2.2.2.2.2.2.2.2.2.2.2.2.1 s.2.2.2.2.2.2.2.2.2.2.2.2.2) (fun s => μ s.1 s.2.1 s.2.2.1 s.2.2.2.1 s.2.2.2.2.1 s.2.2.2.2.2.1 s.2.2.2.2.2.2.1 s.2.2.2.2.2.2.2.1 s.2.2.2.2.2.2.2.2.1 s.2.2.2.2.2.2.2.2.2.1 s.2.2.2.2.2.2.2.2.2.2.1 s.2.2.2.2.2.2.2.2.2.2.2.1 s.2.2.2.2.2.2.2.2.2.2.2.2.1 s.2.2.2.2.2.2.2.2.2.2.2.2.2) (fun n s hI hk => hs n s.1 s.2.1 s.2.2.1 s.2.2.2.1 s.2.2.2.2.1 s.2.2.2.2.2.1 s.2.2.2.2.2.2.1 s.2.2.2.2.2.2.2.1 s.2.2.2.2.2.2.2.2.1 s.2.2.2.2.2.2.2.2.2.1 s.2.2.2.2.2.2.2.2.2.2.1 s.2.2.2.2.2.2.2.2.2.2.2.1 s.2.2.2.2.2.2.2.2.2.2.2.2.1 s.2.2.2.2.2.2.2.2.2.2.2.2.2 hI (fun b1 b2 b3 b4 b5 b6 b7 b8 b9 b10 b11 b12 b13 b14 h9 hm => hk (b1, b2, b3, b4, b5, b6, b7, b8, b9, b10, b11, b12, b13, b14) h9 hm)) (a1, a2, a3, a4, a5, a6, a7, a8, a9, a10, a11, a12, a13, a14) h
theorem lp15 {A1 A2 A3 A4 A5 A6 A7 A8 A9 A10 A11 A12 A13 A14 A15 : Type} (W : Nat → A1 → A2 → A3 → A4 → A5 → A6 → A7 → A8 → A9 → A10 → A11 → A12 → A13 → A14 → A15 → Prop) (I : A1 → A2 → A3 → A4 → A5 → A6 → A7 → A8 → A9 → A10 → A11 → A12 → A13 → A14 → A15 → Prop) (μ : A1 → A2 → A3 → A4 → A5 → A6 → A7 → A8 → A9 → A10 → A11 → A12 → A13 → A14 → A15 → Nat) (hs : ∀ (n : Nat) (a1 : A1) (a2 : A2) (a3 : A3) (a4 : A4) (a5 : A5) (a6 : A6) (a7 : A7) (a8 : A8) (a9 : A9) (a10 : A10) (a11 : A11) (a12 : A12) (a13 : A13) (a14 : A14) (a15 : A15), I a1 a2 a3 a4 a5 a6 a7 a8 a9 a10 a11 a12 a13 a14 a15 → (∀ (b1 : A1) (b2 : A2) (b3 : A3) (b4 : A4) (b5 : A5) (b6 : A6) (b7 : A7) (b8 : A8) (b9 : A9) (b10 : A10) (b11 : A11) (b12 : A12) (b13 : A13) (b14 : A14) (b15 : A15), I b1 b2 b3 b4 b5 b6 b7 b8 b9 b10 b11 b12 b13 b14 b15 → μ b1 b2 b3 b4 b5 b6 b7 b8 b9 b10 b11 b12 b13 b14 b15 < μ a1 a2 a3 a4 a5 a6 a7 a8 a9 a10 a11 a12 a13 a14 a15 → W n b1 b2 b3 b4 b5 b6 b7 b8 b9 b10 b11 b12 b13 b14 b15) → W (n + 1) a1 a2 a3 a4 a5 a6 a7 a8 a9 a10 a11 a12 a13 a14 a15) (a1 : A1) (a2 : A2) (a3 : A3) (a4 : A4) (a5 : A5) (a6 : A6) (a7 : A7) (a8 : A8) (a9 : A9) (a10 : A10) (a11 : A11) (a12 : A12) (a13 : A13) (a14 : A14) (a15 : A15) (h : I a1 a2 a3 a4 a5 a6 a7 a8 a9 a10 a11 a12 a13 a14 a15) : ∃ n, W n a1 a2 a3 a4 a5 a6 a7 a8 a9 a10 a11 a12 a13 a14 a15 :=
  loop_m (σ := A1 × A2 × A3 × A4 × A5 × A6 × A7 × A8 × A9 × A10 × A11 × A12 × A13 × A14 × A15) (fun n s => W n s.1 s.2.1 s.2.2.1 s.2.2.2.1 s.2.2.2.2.1 s.2.2.2.2.2.1 s.2.2.2.2.2.2.1 s.2.2.2.2.2.2.2.1 s.2.2.2.2.2.2.2.2.1 s.2.2.2.2.2.2.2.2.2.1 s.2.2.2.2.2.2.2.2.2.2.1 s.2.2.2.2.2.2.2.2.2.2.2.1 s.2.2.2.2.2.2.2.2.2.2.2.2.1 s.2.2.2.2.2.2.2.2.2.2.2.2.2.1 s.2.2.2.2.2.2.2.2.2.2.2.2.2.2) (fun s => I s.1 s.2.1 s.2.2.1 s.2.2.2.1 s.2.2.2.2.1 s.2.2.2.2.2.1 s.2.2.2.2.2.2.1 s.2.2.2.2.2.2.2.1 s.2.2.2.2.2.2.2.2.1 s.2.2.2.2.2.2.2.2.2.1 s.2.2.2.2.2.2.2.2.2.2.1 s.2.2.2.2.2.2.2.2.2.2.2.1 s.2.2.2.2.2.2.2.2.2.2.2.2.1 s.2.2.2.2.2.2.2.2.2.2.2.2.2.1 s.2.2.2.2.2.2.2.2.2.2.2.2.2.2) (fun s => μ s.1 s.2.1 s.2.2.1 s.2.2.2.1 s.2.2.2.2.1 s.2.2.2.2.2.1 s.2.2.2.2.2.2.1 s.2.2.2.2.2.2.2.1 s.2.2.2.2.2.2.2.2.1 s.2.2.2.2.2.2.2.2.2.1 s.2.2.2.2.2.2.2.2.2.2.1 s.2.2.2.2.2.2.2.2.2.2.2.1 s.2.2.2.2.2.2.2.2.2.2.2.2.1 s.2.2.2.2.2.2.2.2.2.2.2.2.2.1 s.2.2.2.2.2.2.2.2.2.2.2.2.2.2) (fun n s hI hk => hs n s.1 s.2.1 s.2.2.1 s.2.2.2.1 s.2.2.2.2.1 s.2.2.2.2.2.1 s.2.2.2.2.2.2.1 s.2.2.2.2.2.2.2.1 s.2.2.2.2.2.2.2.2.1 s.2.2.2.2.2.2.2.2.2.1 s.2.2.2.2.2.2.2.2.2.2.1 s.2.2.2.2.2.2.2.2.2.2.2.1 s.2.2.2.2.2.2.2.2.2.2.2.2.1 s.2.2.2.2.2.2.2.2.2.2.2.2.2.1 s.2.2.2.2.2.2.2.2.2.2.2.2.2.2 hI (fun b1 b2 b3 b4 b5 b6 b7 b8 b9 b10 b11 b12 b13 b14 b15 h9 hm => hk (b1, b2, b3, b4, b5, b6, b7, b8, b9, b10, b11, b12, b13, b14, b15) h9 hm)) (a1, a2, a3, a4, a5, a6, a7, a8, a9, a10, a11, a12, a13, a14, a15) h
theorem lp16 {A1 A2 A3 A4 A5 A6 A7 A8 A9 A10 A11 A12 A13 A14 A15 A16 : Type} (W : Nat → A1 → A2 → A3 → A4 → A5 → A6 → A7 → A8 → A9 → A10 → A11 → A12 → A13 → A14 → A15 → A16 → Prop) (I : A1 → A2 → A3 → A4 → A5 → A6 → A7 → A8 → A9 → A10 → A11 → A12 → A13 → A14 → A15 → A16 → Prop) (μ : A1 → A2 → A3 → A4 → A5 → A6 → A7 → A8 → A9 → A10 → A11 → A12 → A13 → A14 → A15 → A16 → Nat) (hs : ∀ (n : Nat) (a1 : A1) (a2 : A2) (a3 : A3) (a4 : A4) (a5 : A5) (a6 : A6) (a7 : A7) (a8 : A8) (a9 : A9) (a10 : A10) (a11 : A11) (a12 : A12) (a13 : A13) (a14 : A14) (a15 : A15) (a16 : A16), I a1 a2 a3 a4 a5 a6 a7 a8 a9 a10 a11 a12 a13 a14 a15 a16 → (∀ (b1 : A1) (b2 : A2) (b3 : A3) (b4 : A4) (b5 : A5) (b6 : A6) (b7 : A7) (b8 : A8) (b9 : A9) (b10 : A10) (b11 : A11) (b12 : A12) (b13 : A13) (b14 : A14) (b15 : A15) (b16 : A16), I b1 b2 b3 b4 b5 b6 b7 b8 b9 b10 b11 b12 b13 b14 b15 b16 → μ b1 b2 b3 b4 b5 b6 b7 b8 b9 b10 b11 b12 b13 b14 b15 b16 < μ a1 a2 a3 a4 a5 a6 a7 a8 a9 a10 a11 a12 a13 a14 a15 a16 → W n b1 b2 b3 b4 b5 b6 b7 b8 b9 b10 b11 b12 b13 b14 b15 b16) → W (n + 1) a1 a2 a3 a4 a5 a6 a7 a8 a9 a10 a11 a12 a13 a14 a15 a16) (a1 : A1) (a2 : A2) (a3 : A3) (a4 : A4) (a5 : A5) (a6 : A6) (a7 : A7) (a8 : A8) (a9 : A9) (a10 : A10) (a11 : A11) (a12 : A12) (a13 : A13) (a14 : A14) (a15 : A15) (a16 : A16) (h : I a1 a2 a3 a4 a5 a6 a7 a8 a9 a10 a11 a12 a13 a14 a15 a16) : ∃ n, W n a1 a2 a3 a4 a5 a6 a7 a8 a9 a10 a11 a12 a13 a14 a15 a16 :=
  loop_m (σ := A1 × A2 × A3 × A4 × A5 × A6 × A7 × A8 × A9 × A10 × A11 × A12 × A13 × A14 × A15 × A16) (fun n s => W n s.1 s.2.1 s.2.2.1 s.2.2.2.1 s.2.2.2.2.1 s.2.2.2.2.2.1 s.2.2.2.2.2.2.1 s.2.2.2.2.2.2.2.1 s.2.2.2.2.2.2.2.2.1 s.2.2.2.2.2.2.2.2.2.1 s.2.2.2.2.2.2.2.2.2.2.1 s.2.2.2.2.2.2.2.2.2.2.2.1 s.2.2.2.2.2.2.2.2.2.2.2.2.1 s.2.2.2.2.2.2.2.2.2.2.2.2.2.1 s.2.2.2.2.2.2.2.2.2.2.2.2.2.2.1 s.2.2.2.2.2.2.2.2.2.2.2.2.2.2.2) (fun s => I s.1 s.2.1 s.2.2.1 s.2.2.2.1 s.2.2.2.2.1 s.2.2.2.2.2.1 s.2.2.2.2.2.2.1 s.2.2.2.2.2.2.2.1 s.2.2.2.2.2.2.2.2.1 s.2.2.2.2.2.2.2.2.2.1 s.2.2.2.2.2.2.2.2.2.2.1 s.2.2.2.2.2.2.2.2.2.2.2.1 s.2.2.2.2.2.2.2.2.2.2.2.2.1 s.2.2.2.2.2.2.2.2.2.2.2.2.2.1 s.2.2.2.2.2.2.2.2.2.2.2.2.2.2.1 s.2.2.2.2.2.2.2.2.2.2.2.2.2.2.2) (fun s => μ s.1 s.2.1 s.2.2.1 s.2.2.2.1 s.2.2.2.2.1 s.2.2.2.2.2.1 s.2.2.2.2.2.2.1 s.2.2.2.2.2.2.2.1 s.2.2.2.2.2.2.2.2.1 s.2.2.2.2.2.2.2.2.2.1 s.2.2.2.2.2.2.2.2.2.2.1 s.2.2.2.2.2.2.2.2.2.2.2.1 s.2.2.2.2.2.2.2.2.2.2.2.2.1 s.2.2.2.2.2.2.2.2.2.2.2.2.2.1 s.2.2.2.2.2.2.2.2.2.2.2.2.2.2.1 s.2.2.2.2.2.2.2.2.2.2.2.2.2.2.2) (fun n s hI hk => hs n s.1 s.2.1 s.2.2.1 s.2.2.2.1 s.2.2.2.2.1 s.2.2.2.2.2.1 s.2.2.2.2.2.2.1 s.2.2.2.2.2.2.2.1 s.2.2.2.2.2.2.2.2.1 s.2.2.2.2.2.2.2.2.2.1 s.2.2.2.2.2.2.2.2.2.2.1 s.2.2.2.2.2.2.2.2.2.2.2.1 s.2.2.2.2.2.2.2.2.2.2.2.2.1 s.2.2.2.2.2.2.2.2.2.2.2.2.2.1 s.2.2.2.2.2.2.2.2.2.2.2.2.2.2.1 s.2.2.2.2.2.2.2.2.2.2.2.2.2.2.2 hI (fun b1 b2 b3 b4 b5 b6 b7 b8 b9 b10 b11 b12 b13 b14 b15 b16 h9 hm => hk (b1, b2, b3, b4, b5, b6, b7, b8, b9, b10, b11, b12, b13, b14, b15, b16) h9 hm)) (a1, a2, a3, a4, a5, a6, a7, a8, a9, a10, a11, a12, a13, a14, a15, a16) h
theorem pk_least (P : Nat → Prop) (h : ∃ k, P k) : ∃ k, P k ∧ ∀ j, j < k → ¬ P j := by
  obtain ⟨k, hk⟩ := h
  induction k using Nat.strongRecOn with
  | ind k ih =>
    by_cases e : ∃ j, j < k ∧ P j
    · obtain ⟨j, hj, pj⟩ := e
      exact ih j hj pj
    · exact ⟨k, hk, fun j hj pj => e ⟨j, hj, pj⟩⟩
theorem rp1 {ρ A1 : Type} (W : Nat → (ρ → Prop) → A1 → Prop) (ok : A1 → Prop) (μ : A1 → Nat) (val : A1 → ρ)
    (hs : ∀ (d : Nat) (post : ρ → Prop) (a1 : A1), ok a1 → post (val a1) → (∀ (post' : ρ → Prop) (b1 : A1), ok b1 → μ b1 < μ a1 → post' (val b1) → W d post' b1) → W (d + 1) post a1) :
    ∀ (d : Nat) (post : ρ → Prop) (a1 : A1), ok a1 → μ a1 < d → post (val a1) → W d post a1 := by
  intro d
  induction d with
  | zero => intro post a1 _ h; omega
  | succ d ih =>
    intro post a1 ho hm hp
    exact hs d post a1 ho hp (fun post' b1 ho' hm' hp' => ih post' b1 ho' (by omega) hp')
theorem rp2 {ρ A1 A2 : Type} (W : Nat → (ρ → Prop) → A1 → A2 → Prop) (ok : A1 → A2 → Prop) (μ : A1 → A2 → Nat) (val : A1 → A2 → ρ)
    (hs : ∀ (d : Nat) (post : ρ → Prop) (a1 : A1) (a2 : A2), ok a1 a2 → post (val a1 a2) → (∀ (post' : ρ → Prop) (b1 : A1) (b2 : A2), ok b1 b2 → μ b1 b2 < μ a1 a2 → post' (val b1 b2) → W d post' b1 b2) → W (d + 1) post a1 a2) :
    ∀ (d : Nat) (post : ρ → Prop) (a1 : A1) (a2 : A2), ok a1 a2 → μ a1 a2 < d → post (val a1 a2) → W d post a1 a2 := by
  intro d
  induction d with
  | zero => intro post a1 a2 _ h; omega
  | succ d ih =>
    intro post a1 a2 ho hm hp
    exact hs d post a1 a2 ho hp (fun post' b1 b2 ho' hm' hp' => ih post' b1 b2 ho' (by omega) hp')
theorem rp3 {ρ A1 A2 A3 : Type} (W : Nat → (ρ → Prop) → A1 → A2 → A3 → Prop) (ok : A1 → A2 → A3 → Prop) (μ : A1 → A2 → A3 → Nat) (val : A1 → A2 → A3 → ρ)
    (hs : ∀ (d : Nat) (post : ρ → Prop) (a1 : A1) (a2 : A2) (a3 : A3), ok a1 a2 a3 → post (val a1 a2 a3) → (∀ (post' : ρ → Prop) (b1 : A1) (b2 : A2) (b3 : A3), ok b1 b2 b3 → μ b1 b2 b3 < μ a1 a2 a3 → post' (val b1 b2 b3) → W d post' b1 b2 b3) → W (d + 1) post a1 a2 a3) :
    ∀ (d : Nat) (post : ρ → Prop) (a1 : A1) (a2 : A2) (a3 : A3), ok a1 a2 a3 → μ a1 a2 a3 < d → post (val a1 a2 a3) → W d post a1 a2 a3 := by
  intro d
  induction d with
  | zero => intro post a1 a2 a3 _ h; omega
  | succ d ih =>
    intro post a1 a2 a3 ho hm hp
    exact hs d post a1 a2 a3 ho hp (fun post' b1 b2 b3 ho' hm' hp' => ih post' b1 b2 b3 ho' (by omega) hp')
theorem rp4 {ρ A1 A2 A3 A4 : Type} (W : Nat → (ρ → Prop) → A1 → A2 → A3 → A4 → Prop) (ok : A1 → A2 → A3 → A4 → Prop) (μ : A1 → A2 → A3 → A4 → Nat) (val : A1 → A2 → A3 → A4 → ρ)
    (hs : ∀ (d : Nat) (post : ρ → Prop) (a1 : A1) (a2 : A2) (a3 : A3) (a4 : A4), ok a1 a2 a3 a4 → post (val a1 a2 a3 a4) → (∀ (post' : ρ → Prop) (b1 : A1) (b2 : A2) (b3 : A3) (b4 : A4), ok b1 b2 b3 b4 → μ b1 b2 b3 b4 < μ a1 a2 a3 a4 → post' (val b1 b2 b3 b4) → W d post' b1 b2 b3 b4) → W (d + 1) post a1 a2 a3 a4) :
    ∀ (d : Nat) (post : ρ → Prop) (a1 : A1) (a2 : A2) (a3 : A3) (a4 : A4), ok a1 a2 a3 a4 → μ a1 a2 a3 a4 < d → post (val a1 a2 a3 a4) → W d post a1 a2 a3 a4 := by
  intro d
  induction d with
  | zero => intro post a1 a2 a3 a4 _ h; omega
  | succ d ih =>
    intro post a1 a2 a3 a4 ho hm hp
    exact hs d post a1 a2 a3 a4 ho hp (fun post' b1 b2 b3 b4 ho' hm' hp' => ih post' b1 b2 b3 b4 ho' (by omega) hp')
theorem rp5 {ρ A1 A2 A3 A4 A5 : Type} (W : Nat → (ρ → Prop) → A1 → A2 → A3 → A4 → A5 → Prop) (ok : A1 → A2 → A3 → A4 → A5 → Prop) (μ : A1 → A2 → A3 → A4 → A5 → Nat) (val : A1 → A2 → A3 → A4 → A5 → ρ)
    (hs : ∀ (d : Nat) (post : ρ → Prop) (a1 : A1) (a2 : A2) (a3 : A3) (a4 : A4) (a5 : A5), ok a1 a2 a3 a4 a5 → post (val a1 a2 a3 a4 a5) → (∀ (post' : ρ → Prop) (b1 : A1) (b2 : A2) (b3 : A3) (b4 : A4) (b5 : A5), ok b1 b2 b3 b4 b5 → μ b1 b2 b3 b4 b5 < μ a1 a2 a3 a4 a5 → post' (val b1 b2 b3 b4 b5) → W d post' b1 b2 b3 b4 b5) → W (d + 1) post a1 a2 a3 a4 a5) :
    ∀ (d : Nat) (post : ρ → Prop) (a1 : A1) (a2 : A2) (a3 : A3) (a4 : A4) (a5 : A5), ok a1 a2 a3 a4 a5 → μ a1 a2 a3 a4 a5 < d → post (val a1 a2 a3 a4 a5) → W d post a1 a2 a3 a4 a5 := by
  intro d
  induction d with
  | zero => intro post a1 a2 a3 a4 a5 _ h; omega
  | succ d ih =>
    intro post a1 a2 a3 a4 a5 ho hm hp
    exact hs d post a1 a2 a3 a4 a5 ho hp (fun post' b1 b2 b3 b4 b5 ho' hm' hp' => ih post' b1 b2 b3 b4 b5 ho' (by omega) hp')
theorem rp6 {ρ A1 A2 A3 A4 A5 A6 : Type} (W : Nat → (ρ → Prop) → A1 → A2 → A3 → A4 → A5 → A6 → Prop) (ok : A1 → A2 → A3 → A4 → A5 → A6 → Prop) (μ : A1 → A2 → A3 → A4 → A5 → A6 → Nat) (val : A1 → A2 → A3 → A4 → A5 → A6 → ρ)
    (hs : ∀ (d : Nat) (post : ρ → Prop) (a1 : A1) (a2 : A2) (a3 : A3) (a4 : A4) (a5 : A5) (a6 : A6), ok a1 a2 a3 a4 a5 a6 → post (val a1 a2 a3 a4 a5 a6) → (∀ (post' : ρ → Prop) (b1 : A1) (b2 : A2) (b3 : A3) (b4 : A4) (b5 : A5) (b6 : A6), ok b1 b2 b3 b4 b5 b6 → μ b1 b2 b3 b4 b5 b6 < μ a1 a2 a3 a4 a5 a6 → post' (val b1 b2 b3 b4 b5 b6) → W d post' b1 b2 b3 b4 b5 b6) → W (d + 1) post a1 a2 a3 a4 a5 a6) :
    ∀ (d : Nat) (post : ρ → Prop) (a1 : A1) (a2 : A2) (a3 : A3) (a4 : A4) (a5 : A5) (a6 : A6), ok a1 a2 a3 a4 a5 a6 → μ a1 a2 a3 a4 a5 a6 < d → post (val a1 a2 a3 a4 a5 a6) → W d post a1 a2 a3 a4 a5 a6 := by
  intro d
  induction d with
  | zero => intro post a1 a2 a3 a4 a5 a6 _ h; omega
  | succ d ih =>
    intro post a1 a2 a3 a4 a5 a6 ho hm hp
    exact hs d post a1 a2 a3 a4 a5 a6 ho hp (fun post' b1 b2 b3 b4 b5 b6 ho' hm' hp' => ih post' b1 b2 b3 b4 b5 b6 ho' (by omega) hp')
theorem rec_p {σ ρ : Type} (W : Nat → (ρ → Prop) → σ → Prop) (ok : σ → Prop) (μ : σ → Nat) (val : σ → ρ)
    (hs : ∀ d s post, ok s → post (val s) → (∀ s' post', ok s' → μ s' < μ s → post' (val s') → W d post' s') → W (d + 1) post s) :
    ∀ d s post, ok s → μ s < d → post (val s) → W d post s := by
  intro d
  induction d with
  | zero => intro s post _ h; omega
  | succ d ih =>
    intro s post ho hm hp
    exact hs d s post ho hp (fun s' post' ho' hm' hp' => ih s' post' ho' (by omega) hp')
theorem rec_q {σ ρ : Type} (W : Nat → (ρ → Prop) → σ → Prop) (ok : σ → Prop) (μ : σ → Nat) (Q : σ → ρ → Prop)
    (hs : ∀ d s post, ok s → (∀ r, Q s r → post r) → (∀ s' post', ok s' → μ s' < μ s → (∀ r, Q s' r → post' r) → W d post' s') → W (d + 1) post s) :
    ∀ d s post, ok s → μ s < d → (∀ r, Q s r → post r) → W d post s := by
  intro d
  induction d with
  | zero => intro s post _ h; omega
  | succ d ih =>
    intro s post ho hm hp
    exact hs d s post ho hp (fun s' post' ho' hm' hp' => ih s' post' ho' (by omega) hp')
def bx_sum (f : Nat → Int32) : Nat → Int32
  | 0 => 0
  | n + 1 => bx_sum f n + f n
theorem ek_u {A : Prop} {B : Nat → Prop} {k N : Nat} (hk : k < N) (h : B k) : (some k = none → A) ∧ (∀ y : Nat, some k = some y → (y < N ∧ B y)) :=
  ⟨fun z => absurd z (Option.some_ne_none k), fun _ e => (by cases e; exact ⟨hk, h⟩)⟩
theorem ek_nu {A : Prop} {B : Nat → Prop} (h : A) : ((none : Option Nat) = none → A) ∧ (∀ y : Nat, (none : Option Nat) = some y → B y) :=
  ⟨fun _ => h, fun _ e => (by cases e)⟩
theorem ek_if {c d A B : Prop} (e : c ↔ d) (f : d → A) (g : ¬ d → B) : (c → A) ∧ (¬ c → B) :=
  ⟨fun z => f (e.mp z), fun z => g (fun y => z (e.mpr y))⟩
theorem ek_v {α : Sort _} {P : α → Prop} {a b : α} (e : a = b) (h : P b) : P a := e ▸ h
theorem co_some {x : Option Nat} {A : Prop} {B : Nat → Prop} (i : Nat) (h : B i) (hx : x = some i := by rfl) : (x = none → A) ∧ (∀ y : Nat, x = some y → B y) := by
  subst hx
  exact ⟨fun e => (nomatch e), fun y e => Option.some.inj e ▸ h⟩
theorem co_none {x : Option Nat} {A : Prop} {B : Nat → Prop} (h : A) (hx : x = none := by rfl) : (x = none → A) ∧ (∀ y : Nat, x = some y → B y) := by
  subst hx
  exact ⟨fun _ => h, fun y e => (nomatch e)⟩
theorem co_any {x : Option Nat} {A : Prop} {B : Nat → Prop} (hn : x = none → A) (hs : ∀ i : Nat, x = some i → B i) : (x = none → A) ∧ (∀ y : Nat, x = some y → B y) := ⟨hn, hs⟩
theorem co_2 {P : Nat → Prop} (h0 : P 0) (h1 : P 1) {i : Nat} (hi : i < 2) : P i :=
  match i, hi with
  | 0, _ => h0
  | 1, _ => h1
theorem co_3 {P : Nat → Prop} (h0 : P 0) (h1 : P 1) (h2 : P 2) {i : Nat} (hi : i < 3) : P i :=
  match i, hi with
  | 0, _ => h0
  | 1, _ => h1
  | 2, _ => h2
theorem co_4 {P : Nat → Prop} (h0 : P 0) (h1 : P 1) (h2 : P 2) (h3 : P 3) {i : Nat} (hi : i < 4) : P i :=
  match i, hi with
  | 0, _ => h0
  | 1, _ => h1
  | 2, _ => h2
  | 3, _ => h3
theorem co_dec {N : Nat} {P : Nat → Prop} [DecidablePred P] (h : (List.range N).all (fun i => decide (P i)) = true) {i : Nat} (hi : i < N) : P i := by
  have := List.all_eq_true.mp h i (List.mem_range.mpr hi)
  exact of_decide_eq_true this
theorem co_tab {α : Type} {l : List α} {d : α} {P : α → Prop} (h : ∀ a, a ∈ l → P a) {i : Nat} (hi : i < l.length) : P (l.getD i d) := by
  rw [List.getD_eq_getElem?_getD, List.getElem?_eq_getElem hi]
  exact h _ (List.getElem_mem hi)
theorem pk_mu {x : Int32} {L : Nat} (h0 : ¬ x < 0) (h : ¬ nI L ≤ x) (hL : L < 2 ^ 31) : ∃ j : Nat, j < L ∧ x = nI j ∧ x + 1 = nI (j + 1) ∧ x.toNatClampNeg = j ∧ L - (x + 1).toNatClampNeg < L - x.toNatClampNeg := by
  obtain ⟨j, hj, rfl⟩ := nI_of h0
  have hl : j < L := Nat.not_le.mp fun q => h (nI_le q hj)
  refine ⟨j, hl, rfl, nI_1 j, nI_clamp hj, ?_⟩
  rw [nI_1, nI_clamp (by omega), nI_clamp hj]
  omega
theorem op_s {α : Type} {r : Option α} {A : Prop} {B : α → Prop} {y : α} (h : r = some y) (b : B y) : (r = none → A) ∧ ∀ z, r = some z → B z :=
  ⟨fun e => (by rw [h] at e; cases e), fun z e => (by rw [h] at e; cases e; exact b)⟩
def l_holds {α : Type} (a : Nat → Option Nat) (LP : List Nat) (p : Nat → α) (c : Nat) (b : Nat → α) : Prop :=
  ∀ j, j < c → ∃ y, a j = some y ∧ y ∈ LP ∧ p y = b j
theorem l_holds_0 {α : Type} {a : Nat → Option Nat} {LP : List Nat} {p b : Nat → α} : l_holds a LP p 0 b := fun j h => absurd h (Nat.not_lt_zero j)
theorem l_in_new (LP : List Nat) (q : Nat) : q ∈ LP ++ [q] := List.mem_append.mpr (Or.inr (List.mem_singleton.mpr rfl))
def l_sum (b : Nat → Int32) : Nat → Int32
  | 0 => 0
  | k + 1 => l_sum b k + b k
theorem sb_shr0 (x : Int32) : x >>> ((0 : Int32) &&& 31) = x := by
  rw [show ((0 : Int32) &&& 31) = 0 by decide]
  simp
theorem sb_shl0 (x : Int32) : x <<< ((0 : Int32) &&& 31) = x := by
  rw [show ((0 : Int32) &&& 31) = 0 by decide]
  simp
theorem sb_cl0 : (0 : Int32).toNatClampNeg = 0 := by decide
theorem sb_m1 {p : Nat} (h : 0 < p) : nI p + (-1) = nI (p - 1) := by
  obtain ⟨q, rfl⟩ : ∃ q, p = q + 1 := ⟨p - 1, by omega⟩
  exact pk_m1 q
def sb_b (c : Nat) : Int32 := (nI c).toInt8.toInt32
theorem sb_byte : ∀ c, c < 256 → sb_b c &&& 255 = nI c ∧ ((nI c).toUInt32 % 65536).toInt32 = nI c ∧ nI c ≤ 255 := by decide +kernel
def sb_Fit (a : Nat → Int32) : Prop := ∀ j, fits .byte (.int (a j)) = true
def sb_Lat (t : Nat → Nat) (n : Nat) (a : Nat → Int32) : Prop := ∀ j, j < n → t j < 256 ∧ a j = sb_b (t j)
theorem sb_fitB (c : Nat) : fits .byte (.int (sb_b c)) = true := pk_fb _
theorem sb_fit0 : sb_Fit (fun _ => 0) := fun _ => by
  show fits .byte (.int 0) = true
  decide
theorem sb_fitU {a : Nat → Int32} {k : Nat} {x : Int32} (h : sb_Fit a) (hx : fits .byte (.int x) = true) : sb_Fit (upd a k x) := by
  intro j
  by_cases e : j = k
  · subst e
    rw [pk_us]
    exact hx
  · rw [pk_un e]
    exact h j
def sb_cat (t : Nat → Nat) (n : Nat) (s : Nat → Nat) : Nat → Nat := fun j => if j < n then t j else s (j - n)
theorem sb_cat_lo {t s : Nat → Nat} {n j : Nat} (h : j < n) : sb_cat t n s j = t j := if_pos h
theorem sb_cat_hi {t s : Nat → Nat} {n j : Nat} : sb_cat t n s (n + j) = s j := by
  show (if n + j < n then t (n + j) else s (n + j - n)) = s j
  rw [if_neg (by omega), Nat.add_sub_cancel_left]
theorem sb_latPut {t s : Nat → Nat} {n w : Nat} {a a' : Nat → Int32} (h : sb_Lat t n a) (hk : ∀ j, j < n → a' j = a j) (hs : ∀ i, i < w → s i < 256 ∧ a' (n + i) = sb_b (s i)) : sb_Lat (sb_cat t n s) (n + w) a' := by
  intro j hj
  by_cases e : j < n
  · rw [sb_cat_lo e, hk j e]
    exact h j e
  · obtain ⟨i, rfl⟩ : ∃ i, j = n + i := ⟨j - n, by omega⟩
    rw [sb_cat_hi]
    exact hs i (by omega)
theorem sb_latKeep {t : Nat → Nat} {n : Nat} {a a' : Nat → Int32} (h : sb_Lat t n a) (hk : ∀ j, j < n → a' j = a j) : sb_Lat t n a' := fun j hj => by
  rw [hk j hj]
  exact h j hj
def sb_cap (q m : Nat) : Nat := if q ≤ m then m else if 2 * m + 2 < q then q else 2 * m + 2
def sb_Room (q m mc ms : Nat) : Prop := q ≤ m ∨ (1 ≤ mc ∧ sb_cap q m ≤ ms ∧ sb_cap q m ≤ 65536)
theorem sb_cap_ge (q m : Nat) : q ≤ sb_cap q m := by
  unfold sb_cap
  split
  · omega
  · split <;> omega
theorem sb_cap_gem (q m : Nat) : m ≤ sb_cap q m := by
  unfold sb_cap
  split
  · omega
  · split <;> omega
theorem sb_cap_le {q m mc ms : Nat} (hm : m ≤ 65536) (hr : sb_Room q m mc ms) : sb_cap q m ≤ 65536 := by
  rcases hr with h | h
  · rw [sb_cap, if_pos h]
    exact hm
  · exact h.2.2
theorem sb_at {P : Int32 → Prop} {x y : Int32} (e : x = y) (h : P y) : P x := e ▸ h
def sb_dg (w : Nat) : Nat := if w < 10 then 1 else if w < 100 then 2 else if w < 1000 then 3 else if w < 10000 then 4 else if w < 100000 then 5 else if w < 1000000 then 6 else if w < 10000000 then 7 else if w < 100000000 then 8 else if w < 1000000000 then 9 else 10
def sb_dec (v : Nat) : Nat → Nat := fun i => 48 + v / 10 ^ (sb_dg v - 1 - i) % 10
theorem sb_dg_in (w : Nat) : 1 ≤ sb_dg w ∧ sb_dg w ≤ 10 := by
  unfold sb_dg
  constructor <;> (repeat' split) <;> omega
theorem sb_dg100 {w : Nat} (h : 100 ≤ w) (hw : w < 2 ^ 31) : sb_dg w = sb_dg (w / 100) + 2 := by
  rw [sb_dg, sb_dg, if_neg (show ¬ w < 10 by omega), if_neg (show ¬ w < 100 by omega)]
  by_cases h3 : w < 1000
  · rw [if_pos h3, if_pos (show w / 100 < 10 by omega)]
  rw [if_neg h3, if_neg (show ¬ w / 100 < 10 by omega)]
  by_cases h4 : w < 10000
  · rw [if_pos h4, if_pos (show w / 100 < 100 by omega)]
  rw [if_neg h4, if_neg (show ¬ w / 100 < 100 by omega)]
  by_cases h5 : w < 100000
  · rw [if_pos h5, if_pos (show w / 100 < 1000 by omega)]
  rw [if_neg h5, if_neg (show ¬ w / 100 < 1000 by omega)]
  by_cases h6 : w < 1000000
  · rw [if_pos h6, if_pos (show w / 100 < 10000 by omega)]
  rw [if_neg h6, if_neg (show ¬ w / 100 < 10000 by omega)]
  by_cases h7 : w < 10000000
  · rw [if_pos h7, if_pos (show w / 100 < 100000 by omega)]
  rw [if_neg h7, if_neg (show ¬ w / 100 < 100000 by omega)]
  by_cases h8 : w < 100000000
  · rw [if_pos h8, if_pos (show w / 100 < 1000000 by omega)]
  rw [if_neg h8, if_neg (show ¬ w / 100 < 1000000 by omega)]
  by_cases h9 : w < 1000000000
  · rw [if_pos h9, if_pos (show w / 100 < 10000000 by omega)]
  rw [if_neg h9, if_neg (show ¬ w / 100 < 10000000 by omega)]
  rw [if_pos (show w / 100 < 100000000 by omega)]
theorem sb_negT {w : Nat} (h : w < 2 ^ 31) : (-nI w).toInt = -(w : Int) := by
  rw [Int32.toInt_neg, nI_toInt h]
  exact Int.bmod_eq_of_le (by omega) (by omega)
theorem sb_nle {a b : Nat} (ha : a < 2 ^ 31) (hb : b < 2 ^ 31) : -nI a ≤ -nI b ↔ b ≤ a := by
  rw [Int32.le_iff_toInt_le, sb_negT ha, sb_negT hb]
  omega
theorem sb_nlt {a b : Nat} (ha : a < 2 ^ 31) (hb : b < 2 ^ 31) : -nI a < -nI b ↔ b < a := by
  rw [Int32.lt_iff_toInt_lt, sb_negT ha, sb_negT hb]
  omega
theorem sb_cmp {A B : Prop} {x : Int32} (v c : Nat) (f : c ≤ v → A) (g : v < c → B) (hv : v < 2 ^ 31) (hx : x = -nI c := by rfl) (hc : c < 2 ^ 31 := by omega) : (-nI v ≤ x → A) ∧ (¬ -nI v ≤ x → B) := by
  subst hx
  rw [sb_nle hv hc]
  exact ⟨f, fun z => g (by omega)⟩
theorem sb_ndiv {w : Nat} (hw : w < 2 ^ 31) : (-nI w) / 100 = -nI (w / 100) := by
  apply Int32.toInt_inj.mp
  have h100 : (100 : Int32).toInt = 100 := by decide
  rw [Int32.toInt_div, sb_negT hw, h100, sb_negT (by omega), Int.neg_tdiv, Int.tdiv_eq_ediv_of_nonneg (by omega), Int.bmod_eq_of_le (by omega) (by omega)]
  omega
theorem sb_nrem {w : Nat} (hw : w < 2 ^ 31) : (-nI (w / 100)) * 100 - (-nI w) = nI (w % 100) := by
  have h := pk_rem (a := w) (d := 100) hw (by decide) (by decide)
  rw [pk_div hw (by decide) (by decide)] at h
  rw [← h]
  show (-nI (w / 100)) * nI 100 - (-nI w) = nI w - nI (w / 100) * nI 100
  rw [Int32.neg_mul, Int32.sub_neg, Int32.add_comm, ← Int32.sub_eq_add_neg]
end
section
/-! sums over Nat, Int, Int32, Int64 -/
def jp_sN (f : Nat → Nat) : Nat → Nat
  | 0 => 0
  | n + 1 => jp_sN f n + f n
theorem jp_sN_congr {f g : Nat → Nat} : ∀ {n : Nat}, (∀ i, i < n → f i = g i) → jp_sN f n = jp_sN g n
  | 0, _ => rfl
  | n + 1, h => by rw [jp_sN, jp_sN, jp_sN_congr (fun i hi => h i (Nat.lt_succ_of_lt hi)), h n (Nat.lt_succ_self n)]
theorem jp_sN_add (f g : Nat → Nat) : ∀ n : Nat, jp_sN (fun i => f i + g i) n = jp_sN f n + jp_sN g n
  | 0 => by simp [jp_sN]
  | n + 1 => by rw [jp_sN, jp_sN, jp_sN, jp_sN_add f g n]; grind
theorem jp_sN_mul (f : Nat → Nat) (c : Nat) : ∀ n : Nat, jp_sN f n * c = jp_sN (fun i => f i * c) n
  | 0 => by simp [jp_sN]
  | n + 1 => by rw [jp_sN, jp_sN, ← jp_sN_mul f c n]; grind
theorem jp_sN_zero : ∀ n : Nat, jp_sN (fun _ => 0) n = 0
  | 0 => rfl
  | n + 1 => (congrArg (· + 0) (jp_sN_zero n)).trans (by decide)
theorem jp_sN_swap (f : Nat → Nat → Nat) (m : Nat) : ∀ n : Nat, jp_sN (fun i => jp_sN (fun j => f i j) m) n = jp_sN (fun j => jp_sN (fun i => f i j) n) m
  | 0 => by simp only [jp_sN]; exact (jp_sN_zero m).symm
  | n + 1 => by
    rw [jp_sN, jp_sN_swap f m n, ← jp_sN_add]
    exact jp_sN_congr fun j _ => rfl

def jp_sZ (f : Nat → Int) : Nat → Int
  | 0 => 0
  | n + 1 => jp_sZ f n + f n
theorem jp_sZ_congr {f g : Nat → Int} : ∀ {n : Nat}, (∀ i, i < n → f i = g i) → jp_sZ f n = jp_sZ g n
  | 0, _ => rfl
  | n + 1, h => by rw [jp_sZ, jp_sZ, jp_sZ_congr (fun i hi => h i (Nat.lt_succ_of_lt hi)), h n (Nat.lt_succ_self n)]
theorem jp_sZ_add (f g : Nat → Int) : ∀ n : Nat, jp_sZ (fun i => f i + g i) n = jp_sZ f n + jp_sZ g n
  | 0 => by simp [jp_sZ]
  | n + 1 => by rw [jp_sZ, jp_sZ, jp_sZ, jp_sZ_add f g n]; grind
theorem jp_sZ_mul (f : Nat → Int) (c : Int) : ∀ n : Nat, jp_sZ f n * c = jp_sZ (fun i => f i * c) n
  | 0 => by simp [jp_sZ]
  | n + 1 => by rw [jp_sZ, jp_sZ, ← jp_sZ_mul f c n]; grind
theorem jp_sZ_zero : ∀ n : Nat, jp_sZ (fun _ => 0) n = 0
  | 0 => rfl
  | n + 1 => (congrArg (· + 0) (jp_sZ_zero n)).trans (by decide)
theorem jp_sZ_swap (f : Nat → Nat → Int) (m : Nat) : ∀ n : Nat, jp_sZ (fun i => jp_sZ (fun j => f i j) m) n = jp_sZ (fun j => jp_sZ (fun i => f i j) n) m
  | 0 => by simp only [jp_sZ]; exact (jp_sZ_zero m).symm
  | n + 1 => by
    rw [jp_sZ, jp_sZ_swap f m n, ← jp_sZ_add]
    exact jp_sZ_congr fun j _ => rfl

def jp_sI (f : Nat → Int32) : Nat → Int32
  | 0 => 0
  | n + 1 => jp_sI f n + f n
theorem jp_sI_congr {f g : Nat → Int32} : ∀ {n : Nat}, (∀ i, i < n → f i = g i) → jp_sI f n = jp_sI g n
  | 0, _ => rfl
  | n + 1, h => by rw [jp_sI, jp_sI, jp_sI_congr (fun i hi => h i (Nat.lt_succ_of_lt hi)), h n (Nat.lt_succ_self n)]
theorem jp_sI_add (f g : Nat → Int32) : ∀ n : Nat, jp_sI (fun i => f i + g i) n = jp_sI f n + jp_sI g n
  | 0 => by simp [jp_sI]
  | n + 1 => by rw [jp_sI, jp_sI, jp_sI, jp_sI_add f g n]; grind
theorem jp_sI_mul (f : Nat → Int32) (c : Int32) : ∀ n : Nat, jp_sI f n * c = jp_sI (fun i => f i * c) n
  | 0 => by simp [jp_sI]
  | n + 1 => by rw [jp_sI, jp_sI, ← jp_sI_mul f c n]; grind
theorem jp_sI_zero : ∀ n : Nat, jp_sI (fun _ => 0) n = 0
  | 0 => rfl
  | n + 1 => (congrArg (· + 0) (jp_sI_zero n)).trans (by decide)
theorem jp_sI_swap (f : Nat → Nat → Int32) (m : Nat) : ∀ n : Nat, jp_sI (fun i => jp_sI (fun j => f i j) m) n = jp_sI (fun j => jp_sI (fun i => f i j) n) m
  | 0 => by simp only [jp_sI]; exact (jp_sI_zero m).symm
  | n + 1 => by
    rw [jp_sI, jp_sI_swap f m n, ← jp_sI_add]
    exact jp_sI_congr fun j _ => rfl

def jp_sL (f : Nat → Int64) : Nat → Int64
  | 0 => 0
  | n + 1 => jp_sL f n + f n
theorem jp_sL_congr {f g : Nat → Int64} : ∀ {n : Nat}, (∀ i, i < n → f i = g i) → jp_sL f n = jp_sL g n
  | 0, _ => rfl
  | n + 1, h => by rw [jp_sL, jp_sL, jp_sL_congr (fun i hi => h i (Nat.lt_succ_of_lt hi)), h n (Nat.lt_succ_self n)]
theorem jp_sL_add (f g : Nat → Int64) : ∀ n : Nat, jp_sL (fun i => f i + g i) n = jp_sL f n + jp_sL g n
  | 0 => by simp [jp_sL]
  | n + 1 => by rw [jp_sL, jp_sL, jp_sL, jp_sL_add f g n]; grind
theorem jp_sL_mul (f : Nat → Int64) (c : Int64) : ∀ n : Nat, jp_sL f n * c = jp_sL (fun i => f i * c) n
  | 0 => by simp [jp_sL]
  | n + 1 => by rw [jp_sL, jp_sL, ← jp_sL_mul f c n]; grind
theorem jp_sL_zero : ∀ n : Nat, jp_sL (fun _ => 0) n = 0
  | 0 => rfl
  | n + 1 => (congrArg (· + 0) (jp_sL_zero n)).trans (by decide)
theorem jp_sL_swap (f : Nat → Nat → Int64) (m : Nat) : ∀ n : Nat, jp_sL (fun i => jp_sL (fun j => f i j) m) n = jp_sL (fun j => jp_sL (fun i => f i j) n) m
  | 0 => by simp only [jp_sL]; exact (jp_sL_zero m).symm
  | n + 1 => by
    rw [jp_sL, jp_sL_swap f m n, ← jp_sL_add]
    exact jp_sL_congr fun j _ => rfl

theorem jp_sN_le {f g : Nat → Nat} : ∀ {n : Nat}, (∀ i, i < n → f i ≤ g i) → jp_sN f n ≤ jp_sN g n
  | 0, _ => Nat.le_refl _
  | n + 1, h => Nat.add_le_add (jp_sN_le fun i hi => h i (Nat.lt_succ_of_lt hi)) (h n (Nat.lt_succ_self n))
theorem jp_sN_one {f : Nat → Nat} : ∀ {n k : Nat}, k < n → f k ≤ jp_sN f n
  | 0, _, h => absurd h (Nat.not_lt_zero _)
  | n + 1, k, h => by
    rw [jp_sN]
    by_cases e : k = n
    · subst e; omega
    · have := jp_sN_one (f := f) (n := n) (k := k) (by omega); omega
/-- one place changed -/
theorem jp_sN_pt {f g : Nat → Nat} {k : Nat} (hg : ∀ i, i ≠ k → g i = f i) : ∀ {n : Nat}, k < n → jp_sN g n + f k = jp_sN f n + g k
  | 0, h => absurd h (Nat.not_lt_zero _)
  | n + 1, h => by
    rw [jp_sN, jp_sN]
    by_cases e : k = n
    · subst e
      rw [jp_sN_congr (n := k) (f := g) (g := f) fun i hi => hg i (by omega)]; omega
    · have := jp_sN_pt hg (n := n) (by omega)
      rw [hg n (by omega)]; omega
theorem jp_sN_const (c : Nat) : ∀ n : Nat, jp_sN (fun _ => c) n = n * c
  | 0 => by simp [jp_sN]
  | n + 1 => by rw [jp_sN, jp_sN_const c n, Nat.succ_mul]
theorem jp_sN_app (f : Nat → Nat) (m : Nat) : ∀ n : Nat, jp_sN f (m + n) = jp_sN f m + jp_sN (fun i => f (m + i)) n
  | 0 => rfl
  | n + 1 => by rw [← Nat.add_assoc, jp_sN, jp_sN, jp_sN_app f m n]; omega
theorem jp_sZ_bd {f : Nat → Int} {B : Int} : ∀ {n : Nat}, (∀ i, i < n → -B ≤ f i ∧ f i ≤ B) → -(n * B) ≤ jp_sZ f n ∧ jp_sZ f n ≤ n * B
  | 0, _ => by simp [jp_sZ]
  | n + 1, h => by
    have a := jp_sZ_bd (n := n) fun i hi => h i (Nat.lt_succ_of_lt hi)
    have b := h n (Nat.lt_succ_self n)
    have e : ((n + 1 : Nat) : Int) * B = n * B + B := by rw [Int.natCast_add, Int.add_mul]; simp
    rw [jp_sZ, e]
    generalize (n : Int) * B = m at *
    omega
theorem jp_sI_of (f : Nat → Int) : ∀ n : Nat, jp_sI (fun i => Int32.ofInt (f i)) n = Int32.ofInt (jp_sZ f n)
  | 0 => rfl
  | n + 1 => by rw [jp_sI, jp_sZ, jp_sI_of f n, Int32.ofInt_add]
theorem jp_sL_of (f : Nat → Int) : ∀ n : Nat, jp_sL (fun i => Int64.ofInt (f i)) n = Int64.ofInt (jp_sZ f n)
  | 0 => rfl
  | n + 1 => by rw [jp_sL, jp_sZ, jp_sL_of f n, Int64.ofInt_add]
/-- a product within bounds -/
theorem jp_mulbd {x y A B : Int} (hA : -A ≤ x ∧ x ≤ A) (hB : -B ≤ y ∧ y ≤ B) : -(A * B) ≤ x * y ∧ x * y ≤ A * B := by
  have a0 : 0 ≤ A := by omega
  have b0 : 0 ≤ B := by omega
  have h1 : 0 ≤ (A - x) * (B - y) := Int.mul_nonneg (by omega) (by omega)
  have h2 : 0 ≤ (A + x) * (B + y) := Int.mul_nonneg (by omega) (by omega)
  have h3 : 0 ≤ (A - x) * (B + y) := Int.mul_nonneg (by omega) (by omega)
  have h4 : 0 ≤ (A + x) * (B - y) := Int.mul_nonneg (by omega) (by omega)
  have e1 : (A - x) * (B - y) = A * B - A * y - x * B + x * y := by grind
  have e2 : (A + x) * (B + y) = A * B + A * y + x * B + x * y := by grind
  have e3 : (A - x) * (B + y) = A * B + A * y - x * B - x * y := by grind
  have e4 : (A + x) * (B - y) = A * B - A * y + x * B - x * y := by grind
  rw [e1] at h1; rw [e2] at h2; rw [e3] at h3; rw [e4] at h4
  generalize A * B = p at *
  generalize A * y = q at *
  generalize x * B = r at *
  generalize x * y = s at *
  omega
theorem jp_ofI {z : Int} (h : -2147483648 ≤ z) (h2 : z < 2147483648) : (Int32.ofInt z).toInt = z := by
  rw [Int32.toInt_ofInt]
  show z.bmod 4294967296 = z
  exact Int.bmod_eq_of_le (by omega) (by omega)
theorem jp_ofL {z : Int} (h : -9223372036854775808 ≤ z) (h2 : z < 9223372036854775808) : (Int64.ofInt z).toInt = z := by
  rw [Int64.toInt_ofInt]
  show z.bmod 18446744073709551616 = z
  exact Int.bmod_eq_of_le (by omega) (by omega)
theorem jp_ofIt (x : Int32) : Int32.ofInt x.toInt = x := Int32.ofInt_toInt x
/-- shift counts -/
theorem jp_sc : ∀ n, n < 32 → ((nI n &&& 31).toBitVec.smod 32).toNat = n := by
  intro n hn
  rw [pk_andN (by omega) 5 (by decide), Nat.mod_eq_of_lt (by omega)]
  revert n
  decide +kernel
end
section
/-! bits: the n low digits of v, the highest first -/
def jp_lb (v : Nat) : Nat → List Nat
  | 0 => []
  | n + 1 => (v / 2 ^ n % 2) :: jp_lb v n
theorem jp_lb_len (v : Nat) : ∀ n : Nat, (jp_lb v n).length = n
  | 0 => rfl
  | n + 1 => by rw [jp_lb, List.length_cons, jp_lb_len v n]
theorem jp_dd (v b n : Nat) (hb : b < 2) : (2 * v + b) / 2 ^ (n + 1) = v / 2 ^ n := by
  rw [Nat.pow_succ, Nat.mul_comm (2 ^ n) 2, ← Nat.div_div_eq_div_mul]
  rw [show (2 * v + b) / 2 = v by omega]
theorem jp_lb_app {v b : Nat} (hb : b < 2) : ∀ n : Nat, jp_lb (2 * v + b) (n + 1) = jp_lb v n ++ [b]
  | 0 => by
    show [(2 * v + b) / 2 ^ 0 % 2] = [b]
    rw [Nat.pow_zero, Nat.div_one]
    exact congrArg (fun z => [z]) (by omega)
  | n + 1 => by
    show ((2 * v + b) / 2 ^ (n + 1) % 2) :: jp_lb (2 * v + b) (n + 1) = (v / 2 ^ n % 2) :: (jp_lb v n ++ [b])
    rw [jp_lb_app hb n, jp_dd v b n hb]
/-- a digit more -/
theorem jp_dig (v n : Nat) : v / 2 ^ (n + 1) * 2 + v / 2 ^ n % 2 = v / 2 ^ n := by
  rw [Nat.pow_succ, ← Nat.div_div_eq_div_mul]
  omega
def jp_bo (Bs : List Nat) : List Nat := Bs.flatMap fun B => jp_lb B 8
theorem jp_bo_len : ∀ Bs : List Nat, (jp_bo Bs).length = 8 * Bs.length
  | [] => rfl
  | B :: r => by
    have := jp_bo_len r
    unfold jp_bo at *
    rw [List.flatMap_cons, List.length_append, this, jp_lb_len, List.length_cons]; omega
theorem jp_bo_cons (B : Nat) (r : List Nat) : jp_bo (B :: r) = jp_lb B 8 ++ jp_bo r := List.flatMap_cons
theorem jp_bo_snoc (B : Nat) (r : List Nat) : jp_bo (r ++ [B]) = jp_bo r ++ jp_lb B 8 := by
  unfold jp_bo
  rw [List.flatMap_append, List.flatMap_cons, List.flatMap_nil, List.append_nil]
/-- bytes from p to e, a nought behind each 255 -/
def jp_St (bs : Nat → Int32) : List Nat → Nat → Nat → Prop
  | [], p, e => p = e
  | B :: r, p, e => B < 256 ∧ bs p = nI B ∧ (B = 255 → bs (p + 1) = 0 ∧ jp_St bs r (p + 2) e) ∧ (B ≠ 255 → jp_St bs r (p + 1) e)
theorem jp_St_le {bs : Nat → Int32} : ∀ {Bs : List Nat} {p e : Nat}, jp_St bs Bs p e → p + Bs.length ≤ e
  | [], p, e, h => by have h : p = e := h; rw [h]; exact Nat.le_refl _
  | B :: r, p, e, h => by
    obtain ⟨_, _, h1, h2⟩ := h
    rw [List.length_cons]
    by_cases z : B = 255
    · have := jp_St_le (h1 z).2; omega
    · have := jp_St_le (h2 z); omega
theorem jp_St_shift {bs bs' : Nat → Int32} {g : Nat} : ∀ {Bs : List Nat} {p e : Nat}, jp_St bs Bs p e → g ≤ p → (∀ i, p ≤ i → i < e → bs' (i - g) = bs i) → jp_St bs' Bs (p - g) (e - g)
  | [], p, e, h, _, _ => by have h : p = e := h; rw [h]; exact rfl
  | B :: r, p, e, h, hg, hb => by
    have hl := jp_St_le h
    rw [List.length_cons] at hl
    obtain ⟨h0, hp, h1, h2⟩ := h
    refine ⟨h0, by rw [hb p (Nat.le_refl _) (by omega)]; exact hp, fun z => ?_, fun z => ?_⟩
    · have hl2 := jp_St_le (h1 z).2
      have a := hb (p + 1) (by omega) (by omega)
      have b := jp_St_shift (g := g) (h1 z).2 (by omega) (fun i hi hi2 => hb i (by omega) hi2)
      rw [show p - g + 1 = p + 1 - g by omega, show p - g + 2 = p + 2 - g by omega]
      exact ⟨a.trans (h1 z).1, b⟩
    · have b := jp_St_shift (g := g) (h2 z) (by omega) (fun i hi hi2 => hb i (by omega) hi2)
      rw [show p - g + 1 = p + 1 - g by omega]
      exact b
theorem jp_St_cong {bs bs' : Nat → Int32} {Bs : List Nat} {p e : Nat} (h : jp_St bs Bs p e) (hb : ∀ i, p ≤ i → i < e → bs' i = bs i) : jp_St bs' Bs p e :=
  jp_St_shift (g := 0) h (Nat.zero_le _) hb
theorem jp_St_snoc {bs : Nat → Int32} {B e' : Nat} (hB : B < 256) : ∀ {Bs : List Nat} {p e : Nat}, jp_St bs Bs p e → bs e = nI B → (B = 255 → bs (e + 1) = 0 ∧ e' = e + 2) → (B ≠ 255 → e' = e + 1) → jp_St bs (Bs ++ [B]) p e'
  | [], p, e, h, h0, h1, h2 => by
    have h : p = e := h
    subst h
    exact ⟨hB, h0, fun z => ⟨(h1 z).1, (h1 z).2.symm⟩, fun z => (h2 z).symm⟩
  | D :: r, p, e, h, h0, h1, h2 => ⟨h.1, h.2.1, fun z => ⟨(h.2.2.1 z).1, jp_St_snoc hB (h.2.2.1 z).2 h0 h1 h2⟩, fun z => jp_St_snoc hB (h.2.2.2 z) h0 h1 h2⟩
/-- no mark inside -/
theorem jp_St_nomark {bs : Nat → Int32} : ∀ {Bs : List Nat} {p e j : Nat}, jp_St bs Bs p e → p ≤ j → j < e → bs j = 255 → bs (j + 1) = 0
  | [], p, e, j, h, h1, h2, _ => by have h : p = e := h; omega
  | B :: r, p, e, j, h, h1, h2, h3 => by
    obtain ⟨h0, hp, hz, hn⟩ := h
    by_cases z : B = 255
    · by_cases e1 : j = p
      · rw [e1]; exact (hz z).1
      · by_cases e2 : j = p + 1
        · rw [e2, (hz z).1] at h3
          exact absurd h3 (by decide)
        · exact jp_St_nomark (hz z).2 (by omega) h2 h3
    · by_cases e1 : j = p
      · rw [e1, hp] at h3
        exact absurd ((nI_eq (b := 255) (by omega) (by decide)).mp h3) z
      · exact jp_St_nomark (hn z) (by omega) h2 h3
/-- what is written: from p to l the whole bytes, the last c digits in v -/
def jp_WR (bs : Nat → Int32) (p l v c : Nat) (β : List Nat) : Prop :=
  ∃ Bs : List Nat, jp_St bs Bs p l ∧ β = jp_bo Bs ++ jp_lb v c ∧ c < 8 ∧ v < 2 ^ c
theorem jp_WR_0 {bs : Nat → Int32} {p : Nat} : jp_WR bs p p 0 0 [] := ⟨[], rfl, rfl, by decide, by decide⟩
theorem jp_WR_a {bs : Nat → Int32} {p l v c b : Nat} {β : List Nat} (h : jp_WR bs p l v c β) (hb : b < 2) (hc : c + 1 < 8) : jp_WR bs p l (2 * v + b) (c + 1) (β ++ [b]) := by
  obtain ⟨Bs, h1, rfl, h3, h4⟩ := h
  exact ⟨Bs, h1, by rw [jp_lb_app hb, List.append_assoc], hc, by rw [Nat.pow_succ]; omega⟩
theorem jp_WR_b {bs bs' : Nat → Int32} {p l v c b l' : Nat} {β : List Nat} (h : jp_WR bs p l v c β) (hb : b < 2) (hc : c + 1 = 8)
    (he : ∀ i, i < l → bs' i = bs i) (h0 : bs' l = nI (2 * v + b)) (h1 : 2 * v + b = 255 → bs' (l + 1) = 0 ∧ l' = l + 2) (h2 : 2 * v + b ≠ 255 → l' = l + 1) : jp_WR bs' p l' 0 0 (β ++ [b]) := by
  obtain ⟨Bs, hs, rfl, h3, h4⟩ := h
  obtain rfl : c = 7 := by omega
  have h5 : v < 128 := h4
  refine ⟨Bs ++ [2 * v + b], jp_St_snoc (by omega) (jp_St_cong hs fun i _ hi => he i hi) h0 h1 h2, ?_, by decide, by decide⟩
  rw [jp_bo_snoc, jp_lb_app hb, List.append_assoc]
  exact (List.append_nil _).symm
/-- what is to be read: c digits of the byte in hand, then the bytes from r to e -/
def jp_RD (bs : Nat → Int32) (e : Nat) (ra bb bc : Int32) (ρ : List Nat) : Prop :=
  ∃ (r c v : Nat) (Bs : List Nat), ra = nI r ∧ bc = nI c ∧ (0 < c → bb = nI v) ∧ v < 256 ∧ c ≤ 8 ∧ jp_St bs Bs r e ∧ ρ = jp_lb v c ++ jp_bo Bs
theorem jp_RD_0 {bs : Nat → Int32} {e r : Nat} {bb : Int32} {Bs : List Nat} (h : jp_St bs Bs r e) : jp_RD bs e (nI r) bb 0 (jp_bo Bs) :=
  ⟨r, 0, 0, Bs, rfl, rfl, fun z => absurd z (by decide), by decide, by decide, h, rfl⟩
/-- fewer than eight digits left: all bytes are taken -/
theorem jp_RD_end {bs : Nat → Int32} {e : Nat} {ra bb bc : Int32} {π : List Nat} (h : jp_RD bs e ra bb bc π) (hp : π.length < 8) : ra = nI e := by
  obtain ⟨r, c, v, Bs, rfl, _, _, _, _, hs, rfl⟩ := h
  cases Bs with
  | nil => have hs : r = e := hs; rw [hs]
  | cons B t =>
    rw [List.length_append, jp_bo_len, List.length_cons] at hp
    omega
end
section
/-! sizes, tokens -/
def jp_sz (a : Nat) : Nat := if a = 0 then 0 else Nat.log2 a + 1
theorem jp_sz_lt {a i : Nat} : i < jp_sz a ↔ a / 2 ^ i ≠ 0 := by
  have hp : 0 < 2 ^ i := Nat.two_pow_pos i
  unfold jp_sz
  by_cases h : a = 0
  · rw [if_pos h, h]; simp
  · rw [if_neg h, Nat.lt_succ_iff, Nat.le_log2 h]
    constructor
    · intro q z
      have := Nat.div_eq_zero_iff.mp z
      omega
    · intro q
      apply Nat.le_of_not_lt
      intro z
      exact q (Nat.div_eq_of_lt z)
theorem jp_sz_up (a : Nat) : a < 2 ^ jp_sz a := by
  have h : ¬ jp_sz a < jp_sz a := Nat.lt_irrefl _
  rw [jp_sz_lt] at h
  have h : a / 2 ^ jp_sz a = 0 := Decidable.not_not.mp h
  rcases Nat.div_eq_zero_iff.mp h with q | q
  · exact absurd q (by have := Nat.two_pow_pos (jp_sz a); omega)
  · exact q
theorem jp_sz_le {a k : Nat} (h : a < 2 ^ k) : jp_sz a ≤ k := by
  apply Nat.le_of_not_lt
  intro z
  exact (jp_sz_lt.mp z) (Nat.div_eq_of_lt h)
theorem jp_sz_lo {a : Nat} (h : 0 < jp_sz a) : 2 ^ (jp_sz a - 1) ≤ a := by
  have q := jp_sz_lt.mp (show jp_sz a - 1 < jp_sz a by omega)
  apply Nat.le_of_not_lt
  intro z
  exact q (Nat.div_eq_of_lt z)
theorem jp_sz_0 : jp_sz 0 = 0 := rfl
theorem jp_sz_pos {a : Nat} (h : a ≠ 0) : 0 < jp_sz a := by unfold jp_sz; rw [if_neg h]; omega
def jp_ab (v : Int32) : Nat := v.toInt.natAbs
def jp_n (v : Int32) : Nat := jp_sz (jp_ab v)
/-- the digits that stand for v -/
def jp_vv (v : Int32) : Nat := if 0 < v.toInt then v.toInt.toNat else (v.toInt + 2 ^ jp_n v - 1).toNat
theorem jp_n0 : jp_n 0 = 0 := by decide
theorem jp_ab_ne {v : Int32} (h : ¬ v = 0) : jp_ab v ≠ 0 := by
  intro z
  apply h
  apply Int32.toInt_inj.mp
  unfold jp_ab at z
  rw [Int32.toInt_zero]; omega
theorem jp_n_pos {v : Int32} (h : ¬ v = 0) : 0 < jp_n v := jp_sz_pos (jp_ab_ne h)
theorem jp_n_le {v : Int32} {k : Nat} (h : jp_ab v < 2 ^ k) : jp_n v ≤ k := jp_sz_le h
theorem jp_pw (n : Nat) : ((2 ^ n : Nat) : Int) = (2 : Int) ^ n := by
  rw [Int.natCast_pow]; rfl
theorem jp_vv_lt {v : Int32} : jp_vv v < 2 ^ jp_n v := by
  have h : jp_ab v < 2 ^ jp_n v := jp_sz_up _
  have hp := jp_pw (jp_n v)
  unfold jp_vv
  unfold jp_ab at h
  generalize 2 ^ jp_n v = P at *
  generalize v.toInt = z at *
  split <;> omega
/-- which half -/
theorem jp_vv_hi {v : Int32} (h0 : 0 < jp_n v) : (0 < v.toInt → jp_vv v / 2 ^ (jp_n v - 1) = 1 ∧ (jp_vv v : Int) = v.toInt) ∧ (¬ 0 < v.toInt → jp_vv v / 2 ^ (jp_n v - 1) = 0 ∧ (jp_vv v : Int) - 2 ^ jp_n v + 1 = v.toInt) := by
  have h : jp_ab v < 2 ^ jp_n v := jp_sz_up _
  have hl : 2 ^ (jp_n v - 1) ≤ jp_ab v := jp_sz_lo h0
  have hp := jp_pw (jp_n v)
  have h2 : 2 ^ jp_n v = 2 ^ (jp_n v - 1) * 2 := by
    rw [← Nat.pow_succ]
    exact congrArg (2 ^ ·) (by omega)
  have hq : 0 < 2 ^ (jp_n v - 1) := Nat.two_pow_pos _
  unfold jp_vv
  unfold jp_ab at h hl
  generalize 2 ^ (jp_n v - 1) = Q at *
  generalize 2 ^ jp_n v = P at *
  generalize (2 : Int) ^ jp_n v = R at *
  generalize v.toInt = z at *
  refine ⟨fun hz => ?_, fun hz => ?_⟩
  · rw [if_pos hz]
    refine ⟨?_, by omega⟩
    rw [Nat.div_eq_iff hq]
    omega
  · rw [if_neg hz]
    refine ⟨Nat.div_eq_of_lt (by omega), by omega⟩
/-- the tokens of a block behind its first level: d places are left, k is the next, r noughts stand before it -/
def jp_tk (f : Nat → Int32) : Nat → Nat → Nat → List (Nat × Int32)
  | 0, _, r => if r = 0 then [] else [(0, 0)]
  | d + 1, k, r => if f k = 0 then jp_tk f d (k + 1) (r + 1) else List.replicate (r / 16) (240, 0) ++ (r % 16 * 16 + jp_n (f k), f k) :: jp_tk f d (k + 1) 0
theorem jp_tk_len (f : Nat → Int32) : ∀ d k r : Nat, (jp_tk f d k r).length ≤ d + r
  | 0, k, r => by
    unfold jp_tk
    split
    · simp
    · simp; omega
  | d + 1, k, r => by
    unfold jp_tk
    split
    · have := jp_tk_len f d (k + 1) (r + 1); omega
    · have := jp_tk_len f d (k + 1) 0
      rw [List.length_append, List.length_replicate, List.length_cons]
      omega
/-- the tokens' codes and values -/
def jp_to (t : Nat × Int32) : Prop := t.1 < 272 ∧ jp_ab t.2 < 2 ^ 13
theorem jp_tk_ok {f : Nat → Int32} (hf : ∀ k, k < 64 → jp_ab (f k) < 2 ^ 13) : ∀ d k r : Nat, k + d = 64 → ∀ t ∈ jp_tk f d k r, t.1 < 256 ∧ jp_ab t.2 < 2 ^ 13
  | 0, k, r, _, t, ht => by
    unfold jp_tk at ht
    split at ht
    · exact absurd ht (List.not_mem_nil)
    · rw [List.mem_singleton] at ht; subst ht; exact ⟨by decide, by decide⟩
  | d + 1, k, r, hk, t, ht => by
    unfold jp_tk at ht
    split at ht
    · exact jp_tk_ok hf d (k + 1) (r + 1) (by omega) t ht
    · rcases List.mem_append.mp ht with h | h
      · have := (List.mem_replicate.mp h).2
        subst this
        exact ⟨by decide, by decide⟩
      · rcases List.mem_cons.mp h with h | h
        · subst h
          have := jp_n_le (hf k (by omega))
          exact ⟨by show r % 16 * 16 + jp_n (f k) < 256; omega, hf k (by omega)⟩
        · exact jp_tk_ok hf d (k + 1) 0 (by omega) t h
/-- a block: the change of the first level, then the others in their order -/
def jp_bt (f : Nat → Int32) (p : Int32) : List (Nat × Int32) := (256 + jp_n (f 0 - p), f 0 - p) :: jp_tk f 63 1 0
theorem jp_bt_len (f : Nat → Int32) (p : Int32) : (jp_bt f p).length ≤ 64 := by
  unfold jp_bt
  have := jp_tk_len f 63 1 0
  rw [List.length_cons]; omega
theorem jp_bt_ok {f : Nat → Int32} {p : Int32} (hf : ∀ k, k < 64 → jp_ab (f k) < 2 ^ 13) (hp : jp_ab (f 0 - p) < 2 ^ 13) : ∀ t ∈ jp_bt f p, jp_to t := by
  intro t ht
  rcases List.mem_cons.mp ht with h | h
  · subst h
    have := jp_n_le hp
    exact ⟨by show 256 + jp_n (f 0 - p) < 272; omega, hp⟩
  · have := jp_tk_ok hf 63 1 0 rfl t h
    exact ⟨by omega, this.2⟩
/-- the order of the places of a block -/
def jp_zl : List Nat := [0, 1, 8, 16, 9, 2, 3, 10, 17, 24, 32, 25, 18, 11, 4, 5, 12, 19, 26, 33, 40, 48, 41, 34, 27, 20, 13, 6, 7, 14, 21, 28, 35, 42, 49, 56, 57, 50, 43, 36, 29, 22, 15, 23, 30, 37, 44, 51, 58, 59, 52, 45, 38, 31, 39, 46, 53, 60, 61, 54, 47, 55, 62, 63]
def jp_zg (k : Nat) : Nat := jp_zl.getD k 0
theorem jp_zg_lt : ∀ k, k < 64 → jp_zg k < 64 := by decide +kernel
theorem jp_zg_0 : jp_zg 0 = 0 := by decide
def jp_iz (j : Nat) : Nat := jp_zl.findIdx (· == j)
theorem jp_iz_ok : ∀ j, j < 64 → jp_iz j < 64 ∧ jp_zg (jp_iz j) = j := by decide +kernel
theorem jp_zi_ok : ∀ k, k < 64 → jp_iz (jp_zg k) = k := by decide +kernel
theorem jp_zg_inj {a b : Nat} (ha : a < 64) (hb : b < 64) (h : jp_zg a = jp_zg b) : a = b := by
  rw [← jp_zi_ok a ha, ← jp_zi_ok b hb, h]
/-- block b of the levels L, r blocks a segment -/
def jp_bk (r : Nat) (L : Nat → Int32) (b : Nat) : List (Nat × Int32) := jp_bt (fun k => L (64 * b + jp_zg k)) (if b % r = 0 then 0 else L (64 * (b - 1)))
def jp_sg (r : Nat) (L : Nat → Int32) : Nat → Nat → List (Nat × Int32)
  | _, 0 => []
  | b, d + 1 => jp_bk r L b ++ jp_sg r L (b + 1) d
theorem jp_sg_snoc (r : Nat) (L : Nat → Int32) : ∀ d b : Nat, jp_sg r L b (d + 1) = jp_sg r L b d ++ jp_bk r L (b + d)
  | 0, b => by simp [jp_sg]
  | d + 1, b => by
    rw [jp_sg, jp_sg_snoc r L d (b + 1), jp_sg, List.append_assoc, show b + 1 + d = b + (d + 1) by omega]
/-- digits of tokens -/
def jp_t1 (C N : Nat → Nat) (t : Nat × Int32) : List Nat := jp_lb (C t.1) (N t.1) ++ jp_lb (jp_vv t.2) (jp_n t.2)
def jp_tb (C N : Nat → Nat) (l : List (Nat × Int32)) : List Nat := l.flatMap (jp_t1 C N)
theorem jp_tb_app (C N : Nat → Nat) (l m : List (Nat × Int32)) : jp_tb C N (l ++ m) = jp_tb C N l ++ jp_tb C N m := List.flatMap_append
theorem jp_tb_cons (C N : Nat → Nat) (t : Nat × Int32) (m : List (Nat × Int32)) : jp_tb C N (t :: m) = jp_t1 C N t ++ jp_tb C N m := List.flatMap_cons
theorem jp_tb_snoc (C N : Nat → Nat) (l : List (Nat × Int32)) (t : Nat × Int32) : jp_tb C N (l ++ [t]) = jp_tb C N l ++ jp_t1 C N t := by
  rw [jp_tb_app, jp_tb_cons]
  exact congrArg (jp_tb C N l ++ ·) (List.append_nil _)
theorem jp_tb_nil (C N : Nat → Nat) : jp_tb C N [] = [] := rfl
end
section
/-! joining the two lightest -/
def jp_F : Nat → Nat
  | 0 => 1
  | 1 => 2
  | n + 2 => jp_F (n + 1) + jp_F n
theorem jp_F_up : ∀ n : Nat, jp_F n ≤ jp_F (n + 1)
  | 0 => by decide
  | n + 1 => by rw [jp_F]; omega
theorem jp_F_le : ∀ {a d : Nat}, jp_F a ≤ jp_F (a + d)
  | a, 0 => Nat.le_refl _
  | a, d + 1 => Nat.le_trans (jp_F_le (a := a) (d := d)) (jp_F_up (a + d))
theorem jp_F_bd {d : Nat} (h : jp_F d ≤ 300) : d ≤ 11 := by
  apply Nat.le_of_not_lt
  intro z
  obtain ⟨c, rfl⟩ : ∃ c, d = 12 + c := ⟨d - 12, by omega⟩
  have := jp_F_le (a := 12) (d := c)
  have e : jp_F 12 = 377 := by decide
  omega
/-- d steps upwards lead from k to x -/
def jp_ch (A : Nat → Nat) : Nat → Nat → Nat → Prop
  | 0, k, x => k = x
  | d + 1, k, x => A k ≠ 0 ∧ jp_ch A d (A k) x
theorem jp_ch_keep {A A' : Nat → Nat} (hA : ∀ y, A y ≠ 0 → A' y = A y) : ∀ {d k x : Nat}, jp_ch A d k x → jp_ch A' d k x
  | 0, _, _, h => h
  | d + 1, k, x, h => by
    refine ⟨by rw [hA k h.1]; exact h.1, ?_⟩
    rw [hA k h.1]
    exact jp_ch_keep hA h.2
theorem jp_ch_ext {A : Nat → Nat} {m : Nat} (hm : m ≠ 0) : ∀ {d k a : Nat}, jp_ch A d k a → A a = m → jp_ch A (d + 1) k m
  | 0, k, a, h, e => by
    have h : k = a := h
    subst h
    exact ⟨by rw [e]; exact hm, e⟩
  | d + 1, k, a, h, e => ⟨h.1, jp_ch_ext hm h.2 e⟩
def jp_lf (fr to : Nat) (w : Nat → Nat) (k : Nat) : Prop := fr ≤ k ∧ k < to ∧ 0 < w k
def jp_lv (fr to : Nat) (W A : Nat → Nat) (m x : Nat) : Prop := fr ≤ x ∧ (x < to ∨ 272 ≤ x) ∧ x < m ∧ 0 < W x ∧ A x = 0
def jp_ind (fr to : Nat) (W A : Nat → Nat) (m x : Nat) : Nat := if fr ≤ x ∧ (x < to ∨ 272 ≤ x) ∧ x < m ∧ 0 < W x ∧ A x = 0 then 1 else 0
theorem jp_ind1 {fr to : Nat} {W A : Nat → Nat} {m x : Nat} (h : jp_lv fr to W A m x) : jp_ind fr to W A m x = 1 := if_pos h
theorem jp_ind0 {fr to : Nat} {W A : Nat → Nat} {m x : Nat} (h : ¬ jp_lv fr to W A m x) : jp_ind fr to W A m x = 0 := if_neg h
theorem jp_sN_ind {c : Nat} : ∀ {n k : Nat}, k < n → jp_sN (fun i => if i = k then c else 0) n = c := by
  intro n k hk
  have h := jp_sN_pt (f := fun _ => 0) (g := fun i => if i = k then c else 0) (k := k) (fun i hi => if_neg hi) hk
  rw [jp_sN_zero] at h
  try dsimp only at h
  rw [if_pos rfl] at h
  omega
def jp_HI (fr to : Nat) (w W A : Nat → Nat) (m : Nat) (rt dp : Nat → Nat) : Prop :=
  (∀ k, k < 272 → W k = w k) ∧
  (∀ k, k < 272 → jp_lf fr to w k → jp_lv fr to W A m (rt k) ∧ jp_ch A (dp k) k (rt k) ∧ jp_F (dp k) ≤ W (rt k)) ∧
  (∀ k, k < 272 → ¬ jp_lf fr to w k → rt k = 1000) ∧
  (∀ x, jp_lv fr to W A m x → jp_sN (fun k => if rt k = x then w k else 0) 272 = W x) ∧
  (∀ x, jp_lv fr to W A m x → jp_sN (fun k => if rt k = x then 2 ^ (16 - dp k) else 0) 272 = 65536) ∧
  (∀ k, k < 272 → jp_lf fr to w k → 0 < dp k → ∀ y, jp_lv fr to W A m y → jp_F (dp k - 1) ≤ W y) ∧
  jp_sN (jp_ind fr to W A m) 544 + (m - 272) ≤ 256 ∧
  (∀ x, m ≤ x → x < 544 → A x = 0) ∧ 272 ≤ m
/-- at first each symbol stands alone -/
theorem jp_HI_0 {fr to : Nat} {w W A : Nat → Nat} (hto : to ≤ 272) (hft : to ≤ fr + 256) (hW : ∀ k, k < 272 → W k = w k) (hA : ∀ k, k < 544 → A k = 0) :
    ∃ rt dp, jp_HI fr to w W A 272 rt dp := by
  obtain ⟨rt, hrt⟩ : ∃ rt : Nat → Nat, ∀ k, rt k = if fr ≤ k ∧ k < to ∧ 0 < w k then k else 1000 := ⟨_, fun _ => rfl⟩
  have r1 : ∀ k, jp_lf fr to w k → rt k = k := fun k h => (hrt k).trans (if_pos h)
  have r2 : ∀ k, ¬ jp_lf fr to w k → rt k = 1000 := fun k h => (hrt k).trans (if_neg h)
  have r3 : ∀ k x, k < 272 → x < 272 → rt k = x → k = x := by
    intro k x hk hx e
    by_cases q : jp_lf fr to w k
    · rw [r1 k q] at e; exact e
    · rw [r2 k q] at e; omega
  refine ⟨rt, fun _ => 0, hW, ?_, ?_, ?_, ?_, ?_, ?_, ?_, ?_⟩
  · intro k hk hl
    rw [r1 k hl]
    refine ⟨⟨hl.1, Or.inl hl.2.1, hk, by rw [hW k hk]; exact hl.2.2, hA k (by omega)⟩, rfl, ?_⟩
    rw [hW k hk]
    exact hl.2.2
  · intro k hk hl
    exact r2 k hl
  · intro x hx
    obtain ⟨h1, h2, h3, h4, h5⟩ := hx
    have h2 : x < to := by omega
    rw [hW x h3] at h4
    rw [hW x h3, jp_sN_congr (g := fun k => if k = x then w x else 0), jp_sN_ind h3]
    intro k hk
    try dsimp only
    by_cases e : k = x
    · rw [if_pos e, if_pos (by rw [e]; exact r1 x ⟨h1, h2, h4⟩), e]
    · rw [if_neg e, if_neg (fun z => e (r3 k x hk h3 z))]
  · intro x hx
    obtain ⟨h1, h2, h3, h4, h5⟩ := hx
    have h2 : x < to := by omega
    rw [hW x h3] at h4
    rw [jp_sN_congr (g := fun k => if k = x then 65536 else 0), jp_sN_ind h3]
    intro k hk
    try dsimp only
    by_cases e : k = x
    · rw [if_pos e, if_pos (by rw [e]; exact r1 x ⟨h1, h2, h4⟩)]
    · rw [if_neg e, if_neg (fun z => e (r3 k x hk h3 z))]
  · intro k hk hl hd
    exact absurd hd (Nat.lt_irrefl 0)
  · have h1 : jp_sN (jp_ind fr to W A 272) 544 ≤ jp_sN (fun i => if fr ≤ i ∧ i < to then 1 else 0) 544 := by
      apply jp_sN_le
      intro i hi
      unfold jp_ind
      split
      · rename_i q
        rw [if_pos ⟨q.1, by omega⟩]; exact Nat.le_refl _
      · omega
    have h2 : ∀ n, jp_sN (fun i => if fr ≤ i ∧ i < to then 1 else 0) n ≤ to - fr ∧ jp_sN (fun i => if fr ≤ i ∧ i < to then 1 else 0) n ≤ n - fr := by
      intro n
      induction n with
      | zero => simp [jp_sN]
      | succ n ih =>
        rw [jp_sN]
        split <;> omega
    have := (h2 544).1
    omega
  · intro x _ hx
    exact hA x hx
  · exact Nat.le_refl _
theorem jp_HI_W {fr to : Nat} {w W A : Nat → Nat} {m : Nat} {rt dp : Nat → Nat} (hT : jp_sN w 272 ≤ 300) (h : jp_HI fr to w W A m rt dp) {x : Nat} (hx : jp_lv fr to W A m x) : W x ≤ 300 := by
  rw [← h.2.2.2.1 x hx]
  refine Nat.le_trans (jp_sN_le fun k _ => ?_) hT
  split <;> omega
theorem jp_HI_d {fr to : Nat} {w W A : Nat → Nat} {m : Nat} {rt dp : Nat → Nat} (hT : jp_sN w 272 ≤ 300) (h : jp_HI fr to w W A m rt dp) {k : Nat} (hk : k < 272) (hl : jp_lf fr to w k) : dp k ≤ 11 := by
  obtain ⟨h1, _, h3⟩ := h.2.1 k hk hl
  have := jp_HI_W hT h h1
  exact jp_F_bd (by omega)
theorem jp_HI_m {fr to : Nat} {w W A : Nat → Nat} {m : Nat} {rt dp : Nat → Nat} (h : jp_HI fr to w W A m rt dp) {a b : Nat} (ha : jp_lv fr to W A m a) (hb : jp_lv fr to W A m b) (hab : a ≠ b) (hm : m ≤ 544) : m < 527 := by
  have hc := h.2.2.2.2.2.2.1
  have e := jp_sN_pt (f := jp_ind fr to W A m) (g := fun i => if i = a then 0 else jp_ind fr to W A m i) (k := a) (fun i hi => if_neg hi) (n := 544) (by have := ha.2.2.1; omega)
  have e2 := jp_sN_one (f := fun i => if i = a then 0 else jp_ind fr to W A m i) (n := 544) (k := b) (by have := hb.2.2.1; omega)
  try dsimp only at e
  try dsimp only at e2
  rw [if_neg (Ne.symm hab), jp_ind1 hb] at e2
  rw [if_pos rfl, jp_ind1 ha] at e
  omega
theorem jp_HI_j {fr to : Nat} {w W A : Nat → Nat} {m : Nat} {rt dp : Nat → Nat} (hT : jp_sN w 272 ≤ 300) (hfr : fr ≤ 272) (h : jp_HI fr to w W A m rt dp) {a b : Nat} (ha : jp_lv fr to W A m a) (hb : jp_lv fr to W A m b) (hab : a ≠ b) (hm : m < 527)
    (hma : ∀ y, jp_lv fr to W A m y → W a ≤ W y) (hmb : ∀ y, jp_lv fr to W A m y → y ≠ a → W b ≤ W y) {W' A' : Nat → Nat}
    (eW : ∀ x, W' x = if x = m then W a + W b else W x) (eA : ∀ x, A' x = if x = a ∨ x = b then m else A x) :
    ∃ rt' dp', jp_HI fr to w W' A' (m + 1) rt' dp' := by
  have hd := fun k hk hl => jp_HI_d hT h (k := k) hk hl
  obtain ⟨hW, hL, hN, hS, hK, hF, hC, hA, h272⟩ := h
  have am := ha.2.2.1
  have bm := hb.2.2.1
  have Wm : W' m = W a + W b := by rw [eW, if_pos rfl]
  have Wo : ∀ x, x < m → W' x = W x := fun x hx => by rw [eW, if_neg (by omega)]
  have Ao : ∀ x, x ≠ a → x ≠ b → A' x = A x := fun x h1 h2 => by rw [eA, if_neg (by omega)]
  have Aa : A' a = m := by rw [eA, if_pos (Or.inl rfl)]
  have Ab : A' b = m := by rw [eA, if_pos (Or.inr rfl)]
  have Ak : ∀ y, A y ≠ 0 → A' y = A y := by
    intro y hy
    apply Ao
    · intro e; rw [e] at hy; exact hy ha.2.2.2.2
    · intro e; rw [e] at hy; exact hy hb.2.2.2.2
  have live : ∀ y, jp_lv fr to W' A' (m + 1) y ↔ y = m ∨ (jp_lv fr to W A m y ∧ y ≠ a ∧ y ≠ b) := by
    intro y
    constructor
    · rintro ⟨h1, h2, h3, h4, h5⟩
      by_cases e : y = m
      · exact Or.inl e
      · have ea : y ≠ a := by intro q; rw [q, Aa] at h5; omega
        have eb : y ≠ b := by intro q; rw [q, Ab] at h5; omega
        rw [Ao y ea eb] at h5
        rw [Wo y (by omega)] at h4
        exact Or.inr ⟨⟨h1, h2, by omega, h4, h5⟩, ea, eb⟩
    · rintro (e | ⟨⟨h1, h2, h3, h4, h5⟩, ea, eb⟩)
      · subst e
        refine ⟨by omega, Or.inr h272, by omega, ?_, ?_⟩
        · rw [Wm]; have := ha.2.2.2.1; omega
        · rw [Ao y (by omega) (by omega)]; exact hA y (Nat.le_refl _) (by omega)
      · exact ⟨h1, h2, by omega, by rw [Wo y h3]; exact h4, by rw [Ao y ea eb]; exact h5⟩
  have rtm : ∀ k, k < 272 → rt k ≠ m := by
    intro k hk
    by_cases hl : jp_lf fr to w k
    · have := (hL k hk hl).1.2.2.1; omega
    · have := hN k hk hl; omega
  have isl : ∀ k, k < 272 → (rt k = a ∨ rt k = b) → jp_lf fr to w k := by
    intro k hk q
    refine Classical.byContradiction fun hl => ?_
    have := hN k hk hl; omega
  obtain ⟨rt', hrt⟩ : ∃ rt' : Nat → Nat, ∀ k, rt' k = if rt k = a ∨ rt k = b then m else rt k := ⟨_, fun _ => rfl⟩
  obtain ⟨dp', hdq⟩ : ∃ dp' : Nat → Nat, ∀ k, dp' k = if rt k = a ∨ rt k = b then dp k + 1 else dp k := ⟨_, fun _ => rfl⟩
  have rp : ∀ k, (rt k = a ∨ rt k = b) → rt' k = m ∧ dp' k = dp k + 1 := fun k e => by rw [hrt, hdq, if_pos e, if_pos e]; exact ⟨rfl, rfl⟩
  have rn : ∀ k, ¬ (rt k = a ∨ rt k = b) → rt' k = rt k ∧ dp' k = dp k := fun k e => by rw [hrt, hdq, if_neg e, if_neg e]; exact ⟨rfl, rfl⟩
  refine ⟨rt', dp', ?_, ?_, ?_, ?_, ?_, ?_, ?_, ?_, ?_⟩
  · intro k hk
    rw [Wo k (by omega)]; exact hW k hk
  · intro k hk hl
    obtain ⟨q1, q2, q3⟩ := hL k hk hl
    by_cases e : rt k = a ∨ rt k = b
    · rw [(rp k e).1, (rp k e).2]
      refine ⟨(live m).mpr (Or.inl rfl), ?_, ?_⟩
      · apply jp_ch_ext (a := rt k) (by omega) (jp_ch_keep Ak q2)
        rcases e with e | e <;> rw [e]
        · exact Aa
        · exact Ab
      · rw [Wm]
        have a0 := ha.2.2.2.1
        have b0 := hb.2.2.2.1
        cases hdp : dp k with
        | zero => show 2 ≤ W a + W b; omega
        | succ d =>
          show jp_F (d + 1) + jp_F d ≤ W a + W b
          rw [hdp] at q3
          have z := hF k hk hl (by omega)
          rw [hdp] at z
          rcases e with e | e
          · rw [e] at q3
            have := z b hb
            rw [Nat.add_sub_cancel] at this
            omega
          · rw [e] at q3
            have := z a ha
            rw [Nat.add_sub_cancel] at this
            omega
    · rw [(rn k e).1, (rn k e).2]
      refine ⟨(live _).mpr (Or.inr ⟨q1, fun z => e (Or.inl z), fun z => e (Or.inr z)⟩), jp_ch_keep Ak q2, ?_⟩
      rw [Wo _ q1.2.2.1]; exact q3
  · intro k hk hl
    rw [(rn k fun z => hl (isl k hk z)).1]
    exact hN k hk hl
  · intro x hx
    rcases (live x).mp hx with e | ⟨q, xa, xb⟩
    · subst e
      rw [Wm, ← hS a ha, ← hS b hb, ← jp_sN_add]
      apply jp_sN_congr
      intro k hk
      try dsimp only
      have := rtm k hk
      by_cases e1 : rt k = a
      · rw [if_pos (rp k (Or.inl e1)).1, if_pos e1, if_neg (by omega)]; omega
      · by_cases e2 : rt k = b
        · rw [if_pos (rp k (Or.inr e2)).1, if_neg e1, if_pos e2]; omega
        · rw [if_neg (by rw [(rn k (by omega)).1]; exact this), if_neg e1, if_neg e2]
    · rw [Wo x q.2.2.1, ← hS x q]
      have := q.2.2.1
      apply jp_sN_congr
      intro k hk
      try dsimp only
      by_cases e : rt k = a ∨ rt k = b
      · rw [if_neg (by rw [(rp k e).1]; omega), if_neg (by omega)]
      · rw [(rn k e).1]
  · intro x hx
    rcases (live x).mp hx with e | ⟨q, xa, xb⟩
    · subst e
      have e2 : jp_sN (fun k => if rt' k = x then 2 ^ (16 - dp' k) else 0) 272 * 2 = 65536 + 65536 := by
        refine Eq.trans ?_ (congr (congrArg HAdd.hAdd (hK a ha)) (hK b hb))
        rw [jp_sN_mul, ← jp_sN_add]
        apply jp_sN_congr
        intro k hk
        try dsimp only
        have := rtm k hk
        by_cases e0 : rt k = a ∨ rt k = b
        · have hd := hd k hk (isl k hk e0)
          have p2 : 2 ^ (16 - (dp k + 1)) * 2 = 2 ^ (16 - dp k) := by
            rw [← Nat.pow_succ]
            exact congrArg (2 ^ ·) (by omega)
          rw [if_pos (rp k e0).1, (rp k e0).2, p2]
          by_cases e1 : rt k = a
          · rw [if_pos e1, if_neg (by omega)]; omega
          · rw [if_neg e1, if_pos (by omega)]; omega
        · rw [if_neg (by rw [(rn k e0).1]; exact this), if_neg (by omega), if_neg (by omega)]
      omega
    · rw [← hK x q]
      have := q.2.2.1
      apply jp_sN_congr
      intro k hk
      try dsimp only
      by_cases e : rt k = a ∨ rt k = b
      · rw [if_neg (by rw [(rp k e).1]; omega), if_neg (by omega)]
      · rw [(rn k e).1, (rn k e).2]
  · intro k hk hl hdp y hy
    obtain ⟨q1, q2, q3⟩ := hL k hk hl
    by_cases e : rt k = a ∨ rt k = b
    · rw [(rp k e).2, Nat.add_sub_cancel]
      rcases (live y).mp hy with z | ⟨z, za, zb⟩
      · subst z
        rw [Wm]
        rcases e with e | e <;> rw [e] at q3 <;> omega
      · rw [Wo y z.2.2.1]
        rcases e with e | e <;> rw [e] at q3
        · exact Nat.le_trans q3 (hma y z)
        · exact Nat.le_trans q3 (hmb y z za)
    · rw [(rn k e).2] at hdp ⊢
      rcases (live y).mp hy with z | ⟨z, za, zb⟩
      · subst z
        rw [Wm]
        have := hF k hk hl hdp a ha
        omega
      · rw [Wo y z.2.2.1]
        exact hF k hk hl hdp y z
  · have e1 : jp_sN (fun i => jp_ind fr to W' A' (m + 1) i + ((if i = a then 1 else 0) + (if i = b then 1 else 0))) 544 = jp_sN (fun i => jp_ind fr to W A m i + (if i = m then 1 else 0)) 544 := by
      apply jp_sN_congr
      intro i hi
      try dsimp only
      by_cases l1 : jp_lv fr to W' A' (m + 1) i
      · rw [jp_ind1 l1]
        rcases (live i).mp l1 with z | ⟨z, za, zb⟩
        · rw [jp_ind0 (fun q => by have := q.2.2.1; omega), if_neg (by omega), if_neg (by omega), if_pos z]
        · rw [jp_ind1 z, if_neg za, if_neg zb, if_neg (by have := z.2.2.1; omega)]
      · rw [jp_ind0 l1]
        have l2 := fun q => l1 ((live i).mpr q)
        have im : i ≠ m := fun q => l2 (Or.inl q)
        rw [if_neg im]
        by_cases za : i = a
        · rw [za, jp_ind1 ha, if_pos rfl, if_neg hab]
        · by_cases zb : i = b
          · rw [zb, jp_ind1 hb, if_pos rfl, if_neg (Ne.symm hab)]
          · rw [jp_ind0 (fun q => l2 (Or.inr ⟨q, za, zb⟩)), if_neg za, if_neg zb]
    rw [jp_sN_add, jp_sN_add, jp_sN_add, jp_sN_ind (by omega), jp_sN_ind (by omega), jp_sN_ind (by omega)] at e1
    omega
  · intro x hx hx2
    rw [Ao x (by omega) (by omega)]
    exact hA x (by omega) hx2
  · omega
/-- one tree or none is left -/
theorem jp_HI_end {fr to : Nat} {w W A : Nat → Nat} {m : Nat} {rt dp : Nat → Nat} (hT : jp_sN w 272 ≤ 300) (h : jp_HI fr to w W A m rt dp)
    (hu : ∀ x y, jp_lv fr to W A m x → jp_lv fr to W A m y → x = y) :
    jp_sN (fun k => if fr ≤ k ∧ k < to ∧ 0 < w k then 2 ^ (16 - dp k) else 0) 272 ≤ 65536 ∧
    ∀ k, k < 272 → jp_lf fr to w k → dp k ≤ 11 ∧ ∃ x, A x = 0 ∧ jp_ch A (dp k) k x := by
  refine ⟨?_, fun k hk hl => ⟨jp_HI_d hT h hk hl, rt k, (h.2.1 k hk hl).1.2.2.2.2, (h.2.1 k hk hl).2.1⟩⟩
  by_cases hx : ∃ k, k < 272 ∧ jp_lf fr to w k
  · obtain ⟨k0, hk0, hl0⟩ := hx
    have l0 := (h.2.1 k0 hk0 hl0).1
    rw [← h.2.2.2.2.1 (rt k0) l0]
    apply jp_sN_le
    intro k hk
    try dsimp only
    by_cases hl : fr ≤ k ∧ k < to ∧ 0 < w k
    · rw [if_pos hl, if_pos (hu _ _ (h.2.1 k hk hl).1 l0)]; exact Nat.le_refl _
    · rw [if_neg hl]; exact Nat.zero_le _
  · rw [jp_sN_congr (g := fun _ => 0), jp_sN_zero]
    · exact Nat.zero_le _
    · intro k hk
      exact if_neg fun q => hx ⟨k, hk, q⟩
end
section
/-! codes by their lengths: l the lengths, the symbols from fr to to -/
def jp_ct (l : Nat → Nat) (fr n k : Nat) : Nat := jp_sN (fun j => if fr ≤ j ∧ l j = n then 1 else 0) k
def jp_C (l : Nat → Nat) (fr to : Nat) : Nat → Nat
  | 0 => 0
  | 1 => 0
  | n + 2 => 2 * (jp_C l fr to (n + 1) + jp_ct l fr (n + 1) to)
def jp_P (l : Nat → Nat) (fr to : Nat) : Nat → Nat
  | 0 => fr
  | 1 => fr
  | n + 2 => jp_P l fr to (n + 1) + jp_ct l fr (n + 1) to
theorem jp_C_s {l : Nat → Nat} {fr to n : Nat} (h : 1 ≤ n) : jp_C l fr to (n + 1) = 2 * (jp_C l fr to n + jp_ct l fr n to) := by
  obtain ⟨m, rfl⟩ : ∃ m, n = m + 1 := ⟨n - 1, by omega⟩
  rfl
theorem jp_P_s {l : Nat → Nat} {fr to n : Nat} (h : 1 ≤ n) : jp_P l fr to (n + 1) = jp_P l fr to n + jp_ct l fr n to := by
  obtain ⟨m, rfl⟩ : ∃ m, n = m + 1 := ⟨n - 1, by omega⟩
  rfl
theorem jp_ct_fr (l : Nat → Nat) (fr n : Nat) : jp_ct l fr n fr = 0 := by
  unfold jp_ct
  rw [jp_sN_congr (g := fun _ => 0), jp_sN_zero]
  intro i hi
  exact if_neg (by omega)
theorem jp_ct_y {l : Nat → Nat} {fr n k : Nat} (hk : fr ≤ k) (h : l k = n) : jp_ct l fr n (k + 1) = jp_ct l fr n k + 1 := by
  unfold jp_ct
  rw [jp_sN, if_pos ⟨hk, h⟩]
theorem jp_ct_n {l : Nat → Nat} {fr n k : Nat} (h : l k ≠ n) : jp_ct l fr n (k + 1) = jp_ct l fr n k := by
  unfold jp_ct
  rw [jp_sN, if_neg (by omega)]
  rfl
theorem jp_ct_le {l : Nat → Nat} {fr n : Nat} : ∀ {d k : Nat}, jp_ct l fr n k ≤ jp_ct l fr n (k + d)
  | 0, _ => Nat.le_refl _
  | d + 1, k => Nat.le_trans (jp_ct_le (d := d) (k := k)) (Nat.le_add_right _ _)
theorem jp_ct_lt {l : Nat → Nat} {fr n k j : Nat} (hk : fr ≤ k) (h : l k = n) (hj : k < j) : jp_ct l fr n k < jp_ct l fr n j := by
  have := jp_ct_y hk h
  have q := jp_ct_le (l := l) (fr := fr) (n := n) (d := j - (k + 1)) (k := k + 1)
  rw [show k + 1 + (j - (k + 1)) = j by omega] at q
  omega
/-- Kraft's sum of the lengths up to n -/
theorem jp_C_sum (l : Nat → Nat) (fr to : Nat) : ∀ n : Nat, n + 1 ≤ 16 → (jp_C l fr to (n + 1) + jp_ct l fr (n + 1) to) * 2 ^ (16 - (n + 1)) = jp_sN (fun k => if fr ≤ k ∧ 1 ≤ l k ∧ l k ≤ n + 1 then 2 ^ (16 - l k) else 0) to
  | 0, _ => by
    show (0 + jp_ct l fr 1 to) * 2 ^ 15 = _
    rw [Nat.zero_add]
    unfold jp_ct
    rw [jp_sN_mul]
    apply jp_sN_congr
    intro i hi
    try dsimp only
    by_cases h : fr ≤ i ∧ l i = 1
    · rw [if_pos h, if_pos (by omega), h.2]
    · rw [if_neg h, if_neg (by omega)]
  | n + 1, h => by
    have ih := jp_C_sum l fr to n (by omega)
    rw [jp_C_s (by omega)]
    have p : 2 ^ (16 - (n + 1)) = 2 ^ (16 - (n + 1 + 1)) * 2 := by
      rw [← Nat.pow_succ]
      exact congrArg (2 ^ ·) (by omega)
    rw [Nat.add_mul, Nat.mul_assoc, Nat.mul_left_comm, Nat.mul_comm 2, ← p, ih]
    conv => lhs; arg 2; unfold jp_ct
    rw [jp_sN_mul, ← jp_sN_add]
    apply jp_sN_congr
    intro i hi
    try dsimp only
    by_cases h1 : fr ≤ i ∧ 1 ≤ l i ∧ l i ≤ n + 1
    · rw [if_pos h1, if_neg (by omega), if_pos (by omega)]; omega
    · by_cases h2 : fr ≤ i ∧ l i = n + 1 + 1
      · rw [if_neg h1, if_pos h2, if_pos (by omega), h2.2]; omega
      · rw [if_neg h1, if_neg h2, if_neg (by omega)]; omega
theorem jp_C_fit {l : Nat → Nat} {fr to : Nat} (hK : jp_sN (fun k => if fr ≤ k ∧ 1 ≤ l k then 2 ^ (16 - l k) else 0) to ≤ 65536) {n : Nat} (h1 : 1 ≤ n) (h2 : n ≤ 16) : jp_C l fr to n + jp_ct l fr n to ≤ 2 ^ n := by
  obtain ⟨m, rfl⟩ : ∃ m, n = m + 1 := ⟨n - 1, by omega⟩
  have h := jp_C_sum l fr to m h2
  have q : jp_sN (fun k => if fr ≤ k ∧ 1 ≤ l k ∧ l k ≤ m + 1 then 2 ^ (16 - l k) else 0) to ≤ 65536 := by
    refine Nat.le_trans (jp_sN_le fun k _ => ?_) hK
    try dsimp only
    by_cases z : fr ≤ k ∧ 1 ≤ l k ∧ l k ≤ m + 1
    · rw [if_pos z, if_pos ⟨z.1, z.2.1⟩]; exact Nat.le_refl _
    · rw [if_neg z]; exact Nat.zero_le _
  rw [← h] at q
  have p : 65536 = 2 ^ (m + 1) * 2 ^ (16 - (m + 1)) := by
    rw [← Nat.pow_add, show m + 1 + (16 - (m + 1)) = 16 by omega]
  rw [p] at q
  exact Nat.le_of_mul_le_mul_right q (Nat.two_pow_pos _)
/-- longer codes lie above -/
theorem jp_C_pre {l : Nat → Nat} {fr to m : Nat} (h1 : 1 ≤ m) : ∀ d : Nat, (jp_C l fr to m + jp_ct l fr m to) * 2 ^ (d + 1) ≤ jp_C l fr to (m + (d + 1))
  | 0 => by rw [jp_C_s h1]; omega
  | d + 1 => by
    have ih := jp_C_pre (l := l) (fr := fr) (to := to) h1 d
    rw [show m + (d + 1 + 1) = m + (d + 1) + 1 by omega, jp_C_s (by omega), Nat.pow_succ, ← Nat.mul_assoc]
    omega
theorem jp_C_big {l : Nat → Nat} {fr to : Nat} (hK : jp_sN (fun k => if fr ≤ k ∧ 1 ≤ l k then 2 ^ (16 - l k) else 0) to ≤ 65536) {n : Nat} (h1 : 1 ≤ n) (h2 : n ≤ 16) : jp_C l fr to n + jp_ct l fr n to ≤ 65536 :=
  Nat.le_trans (jp_C_fit hK h1 h2) (Nat.pow_le_pow_right (by decide) h2 : 2 ^ n ≤ 2 ^ 16)
/-- the places -/
theorem jp_P_sum (l : Nat → Nat) (fr to : Nat) : ∀ n : Nat, jp_P l fr to (n + 1) + jp_ct l fr (n + 1) to = fr + jp_sN (fun k => if fr ≤ k ∧ 1 ≤ l k ∧ l k ≤ n + 1 then 1 else 0) to
  | 0 => by
    show fr + jp_ct l fr 1 to = _
    unfold jp_ct
    apply congrArg (fr + ·)
    apply jp_sN_congr
    intro i hi
    try dsimp only
    by_cases h : fr ≤ i ∧ l i = 1
    · rw [if_pos h, if_pos (by omega)]
    · rw [if_neg h, if_neg (by omega)]
  | n + 1 => by
    have ih := jp_P_sum l fr to n
    rw [jp_P_s (by omega), ih, Nat.add_assoc]
    apply congrArg (fr + ·)
    conv => lhs; arg 2; unfold jp_ct
    rw [← jp_sN_add]
    apply jp_sN_congr
    intro i hi
    try dsimp only
    by_cases h1 : fr ≤ i ∧ 1 ≤ l i ∧ l i ≤ n + 1
    · rw [if_pos h1, if_neg (by omega), if_pos (by omega)]
    · by_cases h2 : fr ≤ i ∧ l i = n + 1 + 1
      · rw [if_neg h1, if_pos h2, if_pos (by omega)]
      · rw [if_neg h1, if_neg h2, if_neg (by omega)]
theorem jp_P_to {l : Nat → Nat} {fr to : Nat} (hft : fr ≤ to) {n : Nat} (h1 : 1 ≤ n) : jp_P l fr to n + jp_ct l fr n to ≤ to := by
  obtain ⟨m, rfl⟩ : ∃ m, n = m + 1 := ⟨n - 1, by omega⟩
  rw [jp_P_sum]
  have h : ∀ t : Nat, jp_sN (fun k => if fr ≤ k ∧ 1 ≤ l k ∧ l k ≤ m + 1 then 1 else 0) t ≤ t - fr := by
    intro t
    induction t with
    | zero => exact Nat.zero_le _
    | succ t ih => rw [jp_sN]; split <;> omega
  have := h to
  omega
theorem jp_P_mono {l : Nat → Nat} {fr to m : Nat} (h1 : 1 ≤ m) : ∀ d : Nat, jp_P l fr to m + jp_ct l fr m to ≤ jp_P l fr to (m + (d + 1))
  | 0 => by rw [jp_P_s h1]; exact Nat.le_refl _
  | d + 1 => by
    have ih := jp_P_mono (l := l) (fr := fr) (to := to) h1 d
    rw [show m + (d + 1 + 1) = m + (d + 1) + 1 by omega, jp_P_s (by omega)]
    omega
theorem jp_P_fr {l : Nat → Nat} {fr to : Nat} : ∀ n : Nat, fr ≤ jp_P l fr to n
  | 0 => Nat.le_refl _
  | 1 => Nat.le_refl _
  | n + 2 => Nat.le_trans (jp_P_fr (n + 1)) (Nat.le_add_right _ _)
/-- the tables of t give the symbol s at the n digits of c -/
def jp_Cw (so fc fp sa : Nat → Int32) (t s n c : Nat) : Prop :=
  1 ≤ n ∧ n ≤ 16 ∧ c < 2 ^ n ∧ ∃ F P Q : Nat → Nat,
    (∀ m, 1 ≤ m → m ≤ 16 → fc (t * 17 + m) = nI (F m) ∧ fp (t * 17 + m) = nI (P m) ∧ sa (t * 17 + m) = nI (Q m) ∧ F m ≤ 65536 ∧ P m ≤ 272 ∧ Q m ≤ 65536) ∧
    F n ≤ c ∧ c < F n + Q n ∧ P n + (c - F n) < 272 ∧ so (P n + (c - F n)) = nI s ∧
    ∀ m, 1 ≤ m → m < n → F m + Q m ≤ c / 2 ^ (n - m)
theorem jp_Cw_of {so fc fp sa : Nat → Int32} {t s fr to : Nat} {l : Nat → Nat} (hto : to ≤ 272) (hft : fr ≤ to)
    (hK : jp_sN (fun k => if fr ≤ k ∧ 1 ≤ l k then 2 ^ (16 - l k) else 0) to ≤ 65536)
    (ht : ∀ m, 1 ≤ m → m ≤ 16 → fc (t * 17 + m) = nI (jp_C l fr to m) ∧ fp (t * 17 + m) = nI (jp_P l fr to m) ∧ sa (t * 17 + m) = nI (jp_ct l fr m to))
    (h1 : fr ≤ s) (h2 : s < to) (h3 : 1 ≤ l s) (h4 : l s ≤ 16) (hs : so (jp_P l fr to (l s) + jp_ct l fr (l s) s) = nI s) :
    jp_Cw so fc fp sa t s (l s) (jp_C l fr to (l s) + jp_ct l fr (l s) s) := by
  have c1 := jp_ct_lt (l := l) (n := l s) h1 rfl h2
  have c2 := jp_C_fit hK h3 h4
  have c3 := jp_P_to (l := l) hft h3
  refine ⟨h3, h4, by omega, jp_C l fr to, jp_P l fr to, fun m => jp_ct l fr m to, ?_, by omega, by (try dsimp only); omega, by omega, ?_, ?_⟩
  · intro m m1 m2
    have q := jp_C_big hK m1 m2
    have p := jp_P_to (l := l) hft m1
    obtain ⟨a, b, c⟩ := ht m m1 m2
    exact ⟨a, b, c, by omega, by omega, by (try dsimp only); omega⟩
  · rw [show jp_C l fr to (l s) + jp_ct l fr (l s) s - jp_C l fr to (l s) = jp_ct l fr (l s) s by omega]
    exact hs
  · intro m m1 m2
    have p := jp_C_pre (l := l) (fr := fr) (to := to) m1 (l s - m - 1)
    rw [show l s - m - 1 + 1 = l s - m by omega, show m + (l s - m) = l s by omega] at p
    try dsimp only
    rw [Nat.le_div_iff_mul_le (Nat.two_pow_pos _)]
    omega
end
section
/-! the waves -/
def jp_qI (t : Nat) : Int32 := [64, 63, 59, 53, 45, 36, 24, 12, 0].getD t 0
def jp_kt (t : Nat) : Int32 := if t ≤ 8 then jp_qI t else if t ≤ 16 then -jp_qI (16 - t) else if t ≤ 24 then -jp_qI (t - 16) else jp_qI (32 - t)
def jp_k (u i : Nat) : Int32 := jp_kt ((2 * i + 1) * u % 32)
theorem jp_k_bd : ∀ u, u < 8 → ∀ i, i < 8 → -64 ≤ (jp_k u i).toInt ∧ (jp_k u i).toInt ≤ 64 := by decide +kernel
theorem jp_k_sym : ∀ u, u < 8 → ∀ i, i < 4 → jp_k u (7 - i) = if u % 2 = 0 then jp_k u i else -jp_k u i := by decide +kernel
theorem jp_k_arg {u i : Nat} (hu : u < 8) (hi : i < 8) : (2 * i + 1) * u < 106 := by
  have : (2 * i + 1) * u ≤ 15 * 7 := Nat.mul_le_mul (by omega) (by omega)
  omega
theorem jp_xwave {post : Int32 → Prop} {nq ni qu iv ln ct pr bb bc ra dc : Int32} {pi qa od cl bs wt ab co so fc fp sa lv sh hf su : Nat → Int32} {wi : Nat → Int64} (hq : ∀ t, t < 9 → qa t = jp_qI t) {u i : Nat} (hu : u < 8) (hi : i < 8) (h : post (jp_k u i)) : wpX_wave post (nq, ni, qu, iv, ln, ct, pr, bb, bc, ra, dc, pi, qa, od, cl, bs, wt, ab, co, so, fc, fp, sa, lv, sh, hf, su, wi) (nI u) (nI i) := by
  have hb := jp_k_arg hu hi
  have e : ((((2 : Int32) * nI i) + 1) * nI u) &&& 31 = nI ((2 * i + 1) * u % 32) := by
    rw [show (2 : Int32) = nI 2 from rfl, pk_mul, nI_1, pk_mul, pk_andN (by omega) 5 (by decide)]
  refine nm_r e ?_
  have ht : (2 * i + 1) * u % 32 < 32 := Nat.mod_lt _ (by decide)
  unfold jp_k jp_kt at h
  generalize (2 * i + 1) * u % 32 = t at h ht ⊢
  refine pk_lt 8 t (fun h8 => pk_lt 16 t (fun h16 => pk_lt 24 t (fun h24 => ?_) (fun h24 => ?_)) (fun h16 => ?_)) (fun h8 => ?_)
  · have e1 : (32 : Int32) - nI t = nI (32 - t) := pk_sub (a := 32) (by omega)
    rw [if_neg (by omega), if_neg (by omega), if_neg (by omega)] at h
    rw [e1, nI_clamp (by omega), hq _ (by omega)]
    exact ⟨vp_in_nI (by omega) (by decide), h⟩
  · have e1 : nI t - (16 : Int32) = nI (t - 16) := pk_sub (b := 16) (by omega)
    rw [if_neg (by omega), if_neg (by omega), if_pos (by omega)] at h
    rw [e1, nI_clamp (by omega), hq _ (by omega)]
    exact ⟨vp_in_nI (by omega) (by decide), h⟩
  · have e1 : (16 : Int32) - nI t = nI (16 - t) := pk_sub (a := 16) (by omega)
    rw [if_neg (by omega), if_pos (by omega)] at h
    rw [e1, nI_clamp (by omega), hq _ (by omega)]
    exact ⟨vp_in_nI (by omega) (by decide), h⟩
  · rw [if_pos (by omega)] at h
    rw [nI_clamp (by omega), hq _ (by omega)]
    exact ⟨vp_in_nI (by omega) (by decide), h⟩
theorem jp_ywave {post : Int32 → Prop} {mq mi mu mv : Int32} {mp ml : Nat → Int32} : ∀ t, t < 9 → post (jp_qI t) → wpY_wave post (mq, mi, mu, mv, mp, ml) (nI t)
  | 0, _, h => br_t (by decide) h
  | 1, _, h => br_f (by decide) (br_t (by decide) h)
  | 2, _, h => br_f (by decide) (br_f (by decide) (br_t (by decide) h))
  | 3, _, h => br_f (by decide) (br_f (by decide) (br_f (by decide) (br_t (by decide) h)))
  | 4, _, h => br_f (by decide) (br_f (by decide) (br_f (by decide) (br_f (by decide) (br_t (by decide) h))))
  | 5, _, h => br_f (by decide) (br_f (by decide) (br_f (by decide) (br_f (by decide) (br_f (by decide) (br_t (by decide) h)))))
  | 6, _, h => br_f (by decide) (br_f (by decide) (br_f (by decide) (br_f (by decide) (br_f (by decide) (br_f (by decide) (br_t (by decide) h))))))
  | 7, _, h => br_f (by decide) (br_f (by decide) (br_f (by decide) (br_f (by decide) (br_f (by decide) (br_f (by decide) (br_f (by decide) (br_t (by decide) h)))))))
  | 8, _, h => br_f (by decide) (br_f (by decide) (br_f (by decide) (br_f (by decide) (br_f (by decide) (br_f (by decide) (br_f (by decide) (br_f (by decide) (h))))))))
  | t + 9, ht, _ => absurd ht (by omega)
theorem jp_yk {post : Int32 → Prop} {mq mi mu mv : Int32} {mp ml : Nat → Int32} {u i : Nat} (hu : u < 8) (hi : i < 8) (h : post (jp_k u i)) : wpY_k post (mq, mi, mu, mv, mp, ml) (nI u) (nI i) := by
  have hb := jp_k_arg hu hi
  have e : ((((2 : Int32) * nI i) + 1) * nI u) - ((((2 : Int32) * nI i) + 1) * nI u) / 32 * 32 = nI ((2 * i + 1) * u % 32) := by
    rw [show (2 : Int32) = nI 2 from rfl, pk_mul, nI_1, pk_mul]
    exact pk_rem (d := 32) (by omega) (by decide) (by decide)
  refine ⟨by decide, nm_r e ?_⟩
  have ht : (2 * i + 1) * u % 32 < 32 := Nat.mod_lt _ (by decide)
  unfold jp_k jp_kt at h
  generalize (2 * i + 1) * u % 32 = t at h ht ⊢
  refine pk_lt 8 t (fun h8 => pk_lt 16 t (fun h16 => pk_lt 24 t (fun h24 => ?_) (fun h24 => ?_)) (fun h16 => ?_)) (fun h8 => ?_)
  · have e1 : (32 : Int32) - nI t = nI (32 - t) := pk_sub (a := 32) (by omega)
    rw [if_neg (by omega), if_neg (by omega), if_neg (by omega)] at h
    rw [e1]
    exact jp_ywave _ (by omega) h
  · have e1 : nI t - (16 : Int32) = nI (t - 16) := pk_sub (b := 16) (by omega)
    rw [if_neg (by omega), if_neg (by omega), if_pos (by omega)] at h
    rw [e1]
    exact jp_ywave _ (by omega) h
  · have e1 : (16 : Int32) - nI t = nI (16 - t) := pk_sub (a := 16) (by omega)
    rw [if_neg (by omega), if_pos (by omega)] at h
    rw [e1]
    exact jp_ywave _ (by omega) h
  · rw [if_pos (by omega)] at h
    exact jp_ywave _ (by omega) h
/-! levels -/
def jp_co (b : Nat) : Nat := 128 * (b / 2) + 8 * (b % 2)
def jp_S (pi : Nat → Int32) (b u v : Nat) : Int32 := jp_sI (fun j => jp_sI (fun i => (pi (jp_co b + 16 * j + i) - 128) * jp_k u i * jp_k v j) 8) 8
def jp_d (q : Int32) (u v : Nat) : Int32 := 8192 * q * ((2 + nI u) + nI v)
def jp_Q (s d : Int32) : Int32 := if 0 ≤ s then (2 * s + d) / (2 * d) else -((2 * -s + d) / (2 * d))
def jp_L (pi : Nat → Int32) (q : Int32) (n : Nat) : Int32 := jp_Q (jp_S pi (n / 64) (n % 8) (n / 8 % 8)) (jp_d q (n % 8) (n / 8 % 8))
theorem jp_d_nat {q u v : Nat} : jp_d (nI q) u v = nI (8192 * q * (2 + u + v)) := by
  unfold jp_d
  rw [show (8192 : Int32) = nI 8192 from rfl, show (2 : Int32) = nI 2 from rfl, pk_mul, nI_add, nI_add, pk_mul]
theorem jp_d_bd {q u v : Nat} (h1 : 1 ≤ q) (h2 : q ≤ 8) (hu : u < 8) (hv : v < 8) : 8192 * (2 + u + v) ≤ 8192 * q * (2 + u + v) ∧ 8192 * q * (2 + u + v) ≤ 1048576 := by
  constructor
  · exact Nat.mul_le_mul_right _ (by omega)
  · have : 8192 * q * (2 + u + v) ≤ 65536 * 16 := Nat.mul_le_mul (by omega) (by omega)
    omega
/-- the separate sums -/
theorem jp_S_sep (pi : Nat → Int32) (b u v : Nat) : jp_sI (fun j => jp_sI (fun i => (pi (jp_co b + 16 * j + i) - 128) * jp_k u i) 8 * jp_k v j) 8 = jp_S pi b u v := by
  unfold jp_S
  apply jp_sI_congr
  intro j _
  exact jp_sI_mul _ _ _
theorem jp_S_z {pi : Nat → Int32} (hp : ∀ i, i < 256 → 0 ≤ (pi i).toInt ∧ (pi i).toInt ≤ 255) {b u v : Nat} (hb : b < 4) (hu : u < 8) (hv : v < 8) : -33554432 ≤ (jp_S pi b u v).toInt ∧ (jp_S pi b u v).toInt ≤ 33554432 := by
  let z : Nat → Nat → Int := fun j i => ((pi (jp_co b + 16 * j + i)).toInt - 128) * (jp_k u i).toInt * (jp_k v j).toInt
  have e : jp_S pi b u v = Int32.ofInt (jp_sZ (fun j => jp_sZ (fun i => z j i) 8) 8) := by
    unfold jp_S
    rw [← jp_sI_of]
    apply jp_sI_congr
    intro j _
    rw [← jp_sI_of]
    apply jp_sI_congr
    intro i _
    show _ = Int32.ofInt (((pi (jp_co b + 16 * j + i)).toInt - 128) * (jp_k u i).toInt * (jp_k v j).toInt)
    rw [Int32.ofInt_mul, Int32.ofInt_mul, Int32.ofInt_sub, Int32.ofInt_toInt, Int32.ofInt_toInt, Int32.ofInt_toInt]
    rfl
  have bz : ∀ j, j < 8 → ∀ i, i < 8 → -524288 ≤ z j i ∧ z j i ≤ 524288 := by
    intro j hj i hi
    have h1 := hp (jp_co b + 16 * j + i) (by unfold jp_co; omega)
    have h2 := jp_mulbd (A := 128) (B := 64) (x := (pi (jp_co b + 16 * j + i)).toInt - 128) (y := (jp_k u i).toInt) (by omega) (jp_k_bd u hu i hi)
    have h3 := jp_mulbd (A := 8192) (B := 64) (x := ((pi (jp_co b + 16 * j + i)).toInt - 128) * (jp_k u i).toInt) (y := (jp_k v j).toInt) (by omega) (jp_k_bd v hv j hj)
    exact h3
  have b2 : ∀ j, j < 8 → -4194304 ≤ jp_sZ (fun i => z j i) 8 ∧ jp_sZ (fun i => z j i) 8 ≤ 4194304 := by
    intro j hj
    exact jp_sZ_bd (n := 8) (fun i hi => bz j hj i hi)
  have b3 := jp_sZ_bd (n := 8) b2
  rw [e, jp_ofI (by omega) (by omega)]
  omega
theorem jp_Q_bd {s d : Int32} (hs : -33554432 ≤ s.toInt ∧ s.toInt ≤ 33554432) (hd : 16384 ≤ d.toInt) (hd2 : d.toInt ≤ 1048576) : jp_ab (jp_Q s d) ≤ 2048 := by
  obtain ⟨D, hD⟩ : ∃ D : Nat, d = nI D ∧ 16384 ≤ D ∧ D ≤ 1048576 := by
    refine ⟨d.toInt.toNat, Int32.toInt_inj.mp ?_, by omega, by omega⟩
    rw [nI_toInt (by omega)]; omega
  obtain ⟨rfl, D1, D2⟩ := hD
  have key : ∀ n : Nat, n ≤ 33554432 → (2 * nI n + nI D) / (2 * nI D) = nI ((2 * n + D) / (2 * D)) ∧ (2 * n + D) / (2 * D) ≤ 2048 := by
    intro n hn
    constructor
    · rw [show (2 : Int32) = nI 2 from rfl, pk_mul, pk_mul, nI_add]
      exact pk_div (by omega) (by omega) (by omega)
    · apply Nat.le_of_lt_succ
      rw [Nat.div_lt_iff_lt_mul (by omega)]
      omega
  unfold jp_Q jp_ab
  by_cases h : (0 : Int32) ≤ s
  · rw [if_pos h]
    rw [Int32.le_iff_toInt_le, Int32.toInt_zero] at h
    have es : s = nI s.toInt.toNat := by
      apply Int32.toInt_inj.mp
      rw [nI_toInt (by omega)]; omega
    obtain ⟨k1, k2⟩ := key s.toInt.toNat (by omega)
    rw [es, k1, nI_toInt (by omega)]
    exact k2
  · rw [if_neg h]
    rw [Int32.le_iff_toInt_le, Int32.toInt_zero] at h
    have es : -s = nI (-s.toInt).toNat := by
      apply Int32.toInt_inj.mp
      rw [nI_toInt (by omega), Int32.toInt_neg, Int.bmod_eq_of_le (by omega) (by omega)]; omega
    obtain ⟨k1, k2⟩ := key (-s.toInt).toNat (by omega)
    rw [es, k1, sb_negT (by omega), Int.natAbs_neg]
    exact k2
theorem jp_L_bd {pi : Nat → Int32} (hp : ∀ i, i < 256 → 0 ≤ (pi i).toInt ∧ (pi i).toInt ≤ 255) {q n : Nat} (h1 : 1 ≤ q) (h2 : q ≤ 8) (hn : n < 256) : jp_ab (jp_L pi (nI q) n) ≤ 2048 := by
  have d := jp_d_bd (u := n % 8) (v := n / 8 % 8) h1 h2 (by omega) (by omega)
  refine jp_Q_bd (jp_S_z hp (by omega) (by omega) (by omega)) ?_ ?_
  · rw [jp_d_nat, nI_toInt (by omega)]; omega
  · rw [jp_d_nat, nI_toInt (by omega)]; omega
end
section
/-! the sums of a block -/
def jp_fo (hf : Nat → Int32) (a s u i : Nat) : Int32 := (if u % 2 = 0 then hf (a + i * s) + hf (a + (7 - i) * s) else hf (a + i * s) - hf (a + (7 - i) * s)) * jp_k u i
theorem jp_fo_sum (hf : Nat → Int32) (a s : Nat) {u : Nat} (hu : u < 8) : jp_sI (jp_fo hf a s u) 4 = jp_sI (fun i => hf (a + i * s) * jp_k u i) 8 := by
  have k0 := jp_k_sym u hu 0 (by decide)
  have k1 := jp_k_sym u hu 1 (by decide)
  have k2 := jp_k_sym u hu 2 (by decide)
  have k3 := jp_k_sym u hu 3 (by decide)
  rw [show 7 - 0 = 7 from rfl] at k0
  rw [show 7 - 1 = 6 from rfl] at k1
  rw [show 7 - 2 = 5 from rfl] at k2
  rw [show 7 - 3 = 4 from rfl] at k3
  simp only [jp_sI, jp_fo, show 7 - 0 = 7 from rfl, show 7 - 1 = 6 from rfl, show 7 - 2 = 5 from rfl, show 7 - 3 = 4 from rfl]
  rw [k0, k1, k2, k3]
  by_cases h : u % 2 = 0
  · simp only [if_pos h]
    grind
  · simp only [if_neg h]
    grind
theorem jp_xfolded6 {post : Int32 → Prop} {nq ni qu iv ln ct pr bb bc ra dc : Int32} {pi qa od cl bs wt ab co so fc fp sa lv sh hf su : Nat → Int32} {wi : Nat → Int64} (hq : ∀ t, t < 9 → qa t = jp_qI t) {a s u : Nat} (hu : u < 8) (hs : a + 7 * s < 64) (h : post (jp_sI (jp_fo hf a s u) 4)) :
    ∀ d j : Nat, j + d = 4 → wX_folded_6 post (nI a) (nI s) (nI u) nq ni qu iv ln ct pr bb bc ra dc pi qa od cl bs wt ab co so fc fp sa lv sh hf su wi (d + 1) (jp_sI (jp_fo hf a s u) j) (nI j) := by
  intro d
  induction d with
  | zero =>
    intro j hj
    obtain rfl : j = 4 := by omega
    exact br_t (by decide) h
  | succ d ih =>
    intro j hj
    have m1 : j * s ≤ 7 * s := Nat.mul_le_mul_right s (by omega)
    have m2 : (7 - j) * s ≤ 7 * s := Nat.mul_le_mul_right s (by omega)
    have e1 : nI a + nI j * nI s = nI (a + j * s) := by rw [pk_mul, nI_add]
    have e2 : nI a + (7 - nI j) * nI s = nI (a + (7 - j) * s) := by rw [show (7 : Int32) = nI 7 from rfl, pk_sub (by omega), pk_mul, nI_add]
    have eu : nI u &&& 1 = nI (u % 2) := pk_andN (by omega) 1 (by decide)
    refine br_f (nI_ge (b := 4) (by omega) (by decide)) ?_
    rw [e1, e2, nI_clamp (by omega), nI_clamp (by omega)]
    refine ⟨vp_in_nI (by omega) (by decide), nm_e ⟨vp_in_nI (by omega) (by decide), nm_e ?_⟩⟩
    rw [eu]
    refine pk_eq (u % 2) 0 (fun z => ?_) (fun z => ?_)
    · refine jp_xwave hq hu (by omega) (nm_r (e' := jp_sI (jp_fo hf a s u) (j + 1)) ?_ (nm_r (nI_1 j) (ih (j + 1) (by omega))))
      rw [jp_sI, jp_fo, if_pos z]
    · refine jp_xwave hq hu (by omega) (nm_r (e' := jp_sI (jp_fo hf a s u) (j + 1)) ?_ (nm_r (nI_1 j) (ih (j + 1) (by omega))))
      rw [jp_sI, jp_fo, if_neg z]
theorem jp_xfolded {post : Int32 → Prop} {nq ni qu iv ln ct pr bb bc ra dc : Int32} {pi qa od cl bs wt ab co so fc fp sa lv sh hf su : Nat → Int32} {wi : Nat → Int64} (hq : ∀ t, t < 9 → qa t = jp_qI t) {a s u : Nat} (hu : u < 8) (hs : a + 7 * s < 64) (h : post (jp_sI (fun i => hf (a + i * s) * jp_k u i) 8)) :
    wpX_folded post (nq, ni, qu, iv, ln, ct, pr, bb, bc, ra, dc, pi, qa, od, cl, bs, wt, ab, co, so, fc, fp, sa, lv, sh, hf, su, wi) (nI a) (nI s) (nI u) :=
  ⟨5, jp_xfolded6 hq hu hs (by rw [jp_fo_sum hf a s hu]; exact h) 4 0 rfl⟩
/-- half by rows -/
theorem jp_xtr17 {post : SX → Prop} {J : Int32 → (Nat → Int32) → (Nat → Int32) → (Nat → Int32) → (Nat → Int32) → (Nat → Int32) → (Nat → Int32) → (Nat → Int32) → (Nat → Int32) → (Nat → Int32) → (Nat → Int32) → (Nat → Int32) → (Nat → Int32) → (Nat → Int32) → (Nat → Int32) → (Nat → Int32) → (Nat → Int32) → (Nat → Int64) → Prop} {nq ni qu iv ln ct pr bb bc ra dc : Int32} {pi qa od cl bs wt ab co so fc fp sa lv sh su : Nat → Int32} {wi : Nat → Int64}
    {c y : Nat} (hc : c ≤ 136) (hy : y < 8)
    (hJ : ∀ hf, (∀ m, m < 8 * (y + 1) → hf m = pi (c + 16 * (m / 8) + m % 8) - 128) → J (nI (y + 1)) pi qa od cl bs wt ab co so fc fp sa lv sh hf su wi) :
    ∀ d j : Nat, j + d = 8 → ∀ hf, (∀ m, m < 8 * y + j → hf m = pi (c + 16 * (m / 8) + m % 8) - 128) → wX_transform_17 post J (nI c) (nI y) nq ni qu iv ln ct pr bb bc ra dc (d + 1) (nI j) pi qa od cl bs wt ab co so fc fp sa lv sh hf su wi := by
  intro d
  induction d with
  | zero =>
    intro j hj hf hh
    obtain rfl : j = 8 := by omega
    exact br_t (by decide) (nm_r (nI_1 y) (hJ hf (fun m hm => hh m (by omega))))
  | succ d ih =>
    intro j hj hf hh
    have e1 : (nI c + nI y * 16) + nI j = nI (c + 16 * y + j) := by
      rw [show (16 : Int32) = nI 16 from rfl, pk_mul, nI_add, nI_add, Nat.mul_comm]
    have e2 : nI y * 8 + nI j = nI (8 * y + j) := by
      rw [show (8 : Int32) = nI 8 from rfl, pk_mul, nI_add, Nat.mul_comm]
    refine br_f (nI_ge (b := 8) (by omega) (by decide)) ?_
    rw [e1, e2, nI_clamp (by omega), nI_clamp (by omega)]
    refine ⟨vp_in_nI (by omega) (by decide), vp_in_nI (by omega) (by decide), nm_e (nm_r (nI_1 j) (ih (j + 1) (by omega) _ ?_))⟩
    intro m hm
    by_cases e : m = 8 * y + j
    · rw [e, pk_us, show (8 * y + j) / 8 = y by omega, show (8 * y + j) % 8 = j by omega]
    · rw [pk_un e]
      exact hh m (by omega)
theorem jp_xtr77 {post : SX → Prop} {J : Int32 → (Nat → Int32) → (Nat → Int32) → (Nat → Int32) → (Nat → Int32) → (Nat → Int32) → (Nat → Int32) → (Nat → Int32) → (Nat → Int32) → (Nat → Int32) → (Nat → Int32) → (Nat → Int32) → (Nat → Int32) → (Nat → Int32) → (Nat → Int32) → (Nat → Int32) → (Nat → Int32) → (Nat → Int64) → Prop} {nq ni qu iv ln ct pr bb bc ra dc : Int32} {pi qa od cl bs wt ab co so fc fp sa lv sh hf : Nat → Int32} {wi : Nat → Int64} (hq : ∀ t, t < 9 → qa t = jp_qI t) {y : Nat} (hy : y < 8)
    (hJ : ∀ su, (∀ m, m < 8 * (y + 1) → su m = jp_sI (fun i => hf (8 * (m / 8) + i) * jp_k (m % 8) i) 8) → J (nI (y + 1)) pi qa od cl bs wt ab co so fc fp sa lv sh hf su wi) :
    ∀ d j : Nat, j + d = 8 → ∀ su, (∀ m, m < 8 * y + j → su m = jp_sI (fun i => hf (8 * (m / 8) + i) * jp_k (m % 8) i) 8) → wX_transform_77 post J (nI y) nq ni qu iv ln ct pr bb bc ra dc (d + 1) (nI j) pi qa od cl bs wt ab co so fc fp sa lv sh hf su wi := by
  intro d
  induction d with
  | zero =>
    intro j hj su hh
    obtain rfl : j = 8 := by omega
    exact br_t (by decide) (nm_r (nI_1 y) (hJ su (fun m hm => hh m (by omega))))
  | succ d ih =>
    intro j hj su hh
    have e2 : nI y * 8 + nI j = nI (8 * y + j) := by
      rw [show (8 : Int32) = nI 8 from rfl, pk_mul, nI_add, Nat.mul_comm]
    have e3 : nI y * 8 = nI (8 * y) := by
      rw [show (8 : Int32) = nI 8 from rfl, pk_mul, Nat.mul_comm]
    refine br_f (nI_ge (b := 8) (by omega) (by decide)) ?_
    rw [e2, e3, nI_clamp (by omega)]
    refine jp_xfolded (s := 1) hq (by omega) (by omega) ⟨vp_in_nI (by omega) (by decide), nm_e (nm_r (nI_1 j) (ih (j + 1) (by omega) _ ?_))⟩
    intro m hm
    by_cases e : m = 8 * y + j
    · rw [e, pk_us, show (8 * y + j) / 8 = y by omega, show (8 * y + j) % 8 = j by omega]
      simp only [Nat.mul_one]
    · rw [pk_un e]
      exact hh m (by omega)
theorem jp_xtr156 {post : SX → Prop} {J : Int32 → (Nat → Int32) → (Nat → Int32) → (Nat → Int32) → (Nat → Int32) → (Nat → Int32) → (Nat → Int32) → (Nat → Int32) → (Nat → Int32) → (Nat → Int32) → (Nat → Int32) → (Nat → Int32) → (Nat → Int32) → (Nat → Int32) → (Nat → Int32) → (Nat → Int32) → (Nat → Int32) → (Nat → Int64) → Prop} {nq ni qu iv ln ct pr bb bc ra dc : Int32} {pi qa od cl bs wt ab co so fc fp sa lv sh hf : Nat → Int32} {wi : Nat → Int64} (hq : ∀ t, t < 9 → qa t = jp_qI t) {x : Nat} (hx : x < 8)
    (hJ : ∀ su, (∀ m, m < 64 → m % 8 < x + 1 → su m = jp_sI (fun i => hf (m % 8 + i * 8) * jp_k (m / 8) i) 8) → J (nI (x + 1)) pi qa od cl bs wt ab co so fc fp sa lv sh hf su wi) :
    ∀ d j : Nat, j + d = 8 → ∀ su, (∀ m, m < 64 → (m % 8 < x ∨ m % 8 = x ∧ m / 8 < j) → su m = jp_sI (fun i => hf (m % 8 + i * 8) * jp_k (m / 8) i) 8) → wX_transform_156 post J (nI x) nq ni qu iv ln ct pr bb bc ra dc (d + 1) (nI j) pi qa od cl bs wt ab co so fc fp sa lv sh hf su wi := by
  intro d
  induction d with
  | zero =>
    intro j hj su hh
    obtain rfl : j = 8 := by omega
    exact br_t (by decide) (nm_r (nI_1 x) (hJ su (fun m hm hm2 => hh m hm (by omega))))
  | succ d ih =>
    intro j hj su hh
    have e2 : nI j * 8 + nI x = nI (8 * j + x) := by
      rw [show (8 : Int32) = nI 8 from rfl, pk_mul, nI_add, Nat.mul_comm]
    refine br_f (nI_ge (b := 8) (by omega) (by decide)) ?_
    rw [e2, nI_clamp (by omega)]
    refine jp_xfolded (s := 8) hq (by omega) (by omega) ⟨vp_in_nI (by omega) (by decide), nm_e (nm_r (nI_1 j) (ih (j + 1) (by omega) _ ?_))⟩
    intro m hm hm2
    by_cases e : m = 8 * j + x
    · rw [e, pk_us, show (8 * j + x) / 8 = j by omega, show (8 * j + x) % 8 = x by omega]
    · rw [pk_un e]
      exact hh m hm (by omega)
theorem jp_xtr147 {post : SX → Prop} {nq ni qu iv ln ct pr bb bc ra dc : Int32} {pi qa od cl bs wt ab co so fc fp sa lv sh hf : Nat → Int32} {wi : Nat → Int64} (hq : ∀ t, t < 9 → qa t = jp_qI t)
    (h : ∀ su, (∀ m, m < 64 → su m = jp_sI (fun i => hf (m % 8 + i * 8) * jp_k (m / 8) i) 8) → post (nq, ni, qu, iv, ln, ct, pr, bb, bc, ra, dc, pi, qa, od, cl, bs, wt, ab, co, so, fc, fp, sa, lv, sh, hf, su, wi)) :
    ∀ d x : Nat, x + d = 8 → ∀ su, (∀ m, m < 64 → m % 8 < x → su m = jp_sI (fun i => hf (m % 8 + i * 8) * jp_k (m / 8) i) 8) → wX_transform_147 post nq ni qu iv ln ct pr bb bc ra dc (d + 1) (nI x) pi qa od cl bs wt ab co so fc fp sa lv sh hf su wi := by
  intro d
  induction d with
  | zero =>
    intro x hx su hh
    obtain rfl : x = 8 := by omega
    exact br_t (by decide) (h su (fun m hm => hh m hm (by omega)))
  | succ d ih =>
    intro x hx su hh
    exact br_f (nI_ge (b := 8) (by omega) (by decide)) ⟨9, jp_xtr156 hq (by omega) (fun su hs => ih (x + 1) (by omega) su hs) 8 0 rfl su (fun m hm hm2 => hh m hm (by omega))⟩
theorem jp_xtr121 {post : SX → Prop} {nq ni qu iv ln ct pr bb bc ra dc : Int32} {pi qa od cl bs wt ab co so fc fp sa lv sh su : Nat → Int32} {wi : Nat → Int64} (hq : ∀ t, t < 9 → qa t = jp_qI t)
    (h : ∀ hf su', (∀ m, m < 64 → hf m = su m) → (∀ m, m < 64 → su' m = jp_sI (fun i => hf (m % 8 + i * 8) * jp_k (m / 8) i) 8) → post (nq, ni, qu, iv, ln, ct, pr, bb, bc, ra, dc, pi, qa, od, cl, bs, wt, ab, co, so, fc, fp, sa, lv, sh, hf, su', wi)) :
    ∀ d x : Nat, x + d = 64 → ∀ hf, (∀ m, m < x → hf m = su m) → wX_transform_121 post nq ni qu iv ln ct pr bb bc ra dc (d + 1) (nI x) pi qa od cl bs wt ab co so fc fp sa lv sh hf su wi := by
  intro d
  induction d with
  | zero =>
    intro x hx hf hh
    obtain rfl : x = 64 := by omega
    exact br_t (by decide) ⟨9, jp_xtr147 hq (fun su' hs => h hf su' hh hs) 8 0 rfl su (fun m hm hm2 => absurd hm2 (by omega))⟩
  | succ d ih =>
    intro x hx hf hh
    refine br_f (nI_ge (b := 64) (by omega) (by decide)) ?_
    rw [nI_clamp (by omega)]
    refine ⟨vp_in_nI (by omega) (by decide), vp_in_nI (by omega) (by decide), nm_e (nm_r (nI_1 x) (ih (x + 1) (by omega) _ ?_))⟩
    intro m hm
    by_cases e : m = x
    · rw [e, pk_us]
    · rw [pk_un e]
      exact hh m (by omega)
theorem jp_xtr68 {post : SX → Prop} {nq ni qu iv ln ct pr bb bc ra dc : Int32} {pi qa od cl bs wt ab co so fc fp sa lv sh hf : Nat → Int32} {wi : Nat → Int64} (hq : ∀ t, t < 9 → qa t = jp_qI t)
    (h : ∀ hf' su', (∀ m, m < 64 → su' m = jp_sI (fun j => jp_sI (fun i => hf (8 * j + i) * jp_k (m % 8) i) 8 * jp_k (m / 8) j) 8) → post (nq, ni, qu, iv, ln, ct, pr, bb, bc, ra, dc, pi, qa, od, cl, bs, wt, ab, co, so, fc, fp, sa, lv, sh, hf', su', wi)) :
    ∀ d x : Nat, x + d = 8 → ∀ su, (∀ m, m < 8 * x → su m = jp_sI (fun i => hf (8 * (m / 8) + i) * jp_k (m % 8) i) 8) → wX_transform_68 post nq ni qu iv ln ct pr bb bc ra dc (d + 1) (nI x) pi qa od cl bs wt ab co so fc fp sa lv sh hf su wi := by
  intro d
  induction d with
  | zero =>
    intro x hx su hh
    obtain rfl : x = 8 := by omega
    refine br_t (by decide) ⟨65, jp_xtr121 hq (fun hf' su' h1 h2 => h hf' su' fun m hm => ?_) 64 0 rfl hf (fun m hm => absurd hm (by omega))⟩
    rw [h2 m hm]
    apply jp_sI_congr
    intro j hj
    rw [h1 _ (by omega), hh _ (by omega), show (m % 8 + j * 8) / 8 = j by omega, show (m % 8 + j * 8) % 8 = m % 8 by omega]
  | succ d ih =>
    intro x hx su hh
    exact br_f (nI_ge (b := 8) (by omega) (by decide)) ⟨9, jp_xtr77 hq (by omega) (fun su hs => ih (x + 1) (by omega) su hs) 8 0 rfl su (fun m hm => hh m (by omega))⟩
theorem jp_xtr8 {post : SX → Prop} {nq ni qu iv ln ct pr bb bc ra dc : Int32} {pi qa od cl bs wt ab co so fc fp sa lv sh su : Nat → Int32} {wi : Nat → Int64} (hq : ∀ t, t < 9 → qa t = jp_qI t) {c : Nat} (hc : c ≤ 136)
    (h : ∀ hf' su', (∀ m, m < 64 → su' m = jp_sI (fun j => jp_sI (fun i => (pi (c + 16 * j + i) - 128) * jp_k (m % 8) i) 8 * jp_k (m / 8) j) 8) → post (nq, ni, qu, iv, ln, ct, pr, bb, bc, ra, dc, pi, qa, od, cl, bs, wt, ab, co, so, fc, fp, sa, lv, sh, hf', su', wi)) :
    ∀ d x : Nat, x + d = 8 → ∀ hf, (∀ m, m < 8 * x → hf m = pi (c + 16 * (m / 8) + m % 8) - 128) → wX_transform_8 post (nI c) nq ni qu iv ln ct pr bb bc ra dc (d + 1) (nI x) pi qa od cl bs wt ab co so fc fp sa lv sh hf su wi := by
  intro d
  induction d with
  | zero =>
    intro x hx hf hh
    obtain rfl : x = 8 := by omega
    refine br_t (by decide) ⟨9, jp_xtr68 hq (fun hf' su' h2 => h hf' su' fun m hm => ?_) 8 0 rfl su (fun m hm => absurd hm (by omega))⟩
    rw [h2 m hm]
    apply jp_sI_congr
    intro j hj
    apply congrArg (· * jp_k (m / 8) j)
    apply jp_sI_congr
    intro i hi
    rw [hh _ (by omega), show (8 * j + i) / 8 = j by omega, show (8 * j + i) % 8 = i by omega]
  | succ d ih =>
    intro x hx hf hh
    exact br_f (nI_ge (b := 8) (by omega) (by decide)) ⟨9, jp_xtr17 hc (by omega) (fun hf hs => ih (x + 1) (by omega) hf hs) 8 0 rfl hf (fun m hm => hh m (by omega))⟩
theorem jp_co_c : ∀ b, b < 4 → (((nI b >>> ((1 : Int32) &&& 31)) * 8) * 16) + ((nI b &&& 1) * 8) = nI (jp_co b) := by decide +kernel
theorem jp_co_le : ∀ b, b < 4 → jp_co b ≤ 136 := by decide
theorem jp_xtransform {post : SX → Prop} {nq ni qu iv ln ct pr bb bc ra dc : Int32} {pi qa od cl bs wt ab co so fc fp sa lv sh hf su : Nat → Int32} {wi : Nat → Int64} (hq : ∀ t, t < 9 → qa t = jp_qI t) {b : Nat} (hb : b < 4)
    (h : ∀ hf' su', (∀ m, m < 64 → su' m = jp_S pi b (m % 8) (m / 8)) → post (nq, ni, qu, iv, ln, ct, pr, bb, bc, ra, dc, pi, qa, od, cl, bs, wt, ab, co, so, fc, fp, sa, lv, sh, hf', su', wi)) : wpX_transform post (nq, ni, qu, iv, ln, ct, pr, bb, bc, ra, dc, pi, qa, od, cl, bs, wt, ab, co, so, fc, fp, sa, lv, sh, hf, su, wi) (nI b) := by
  unfold wpX_transform wpX_corner
  dsimp only
  rw [jp_co_c b hb]
  exact ⟨9, jp_xtr8 hq (jp_co_le b hb) (fun hf' su' h2 => h hf' su' fun m hm => by rw [h2 m hm, jp_S_sep]) 8 0 rfl hf (fun m hm => absurd hm (by omega))⟩
end
section
/-! quantise -/
theorem jp_L_at (pi : Nat → Int32) (q : Int32) {b y j : Nat} (hy : y < 8) (hj : j < 8) : jp_L pi q (64 * b + 8 * y + j) = jp_Q (jp_S pi b j y) (jp_d q j y) := by
  unfold jp_L
  rw [show (64 * b + 8 * y + j) / 64 = b by omega, show (64 * b + 8 * y + j) % 8 = j by omega, show (64 * b + 8 * y + j) / 8 % 8 = y by omega]
theorem jp_xqu15 {post : SX → Prop} {J : Int32 → (Nat → Int32) → (Nat → Int32) → (Nat → Int32) → (Nat → Int32) → (Nat → Int32) → (Nat → Int32) → (Nat → Int32) → (Nat → Int32) → (Nat → Int32) → (Nat → Int32) → (Nat → Int32) → (Nat → Int32) → (Nat → Int32) → (Nat → Int32) → (Nat → Int32) → (Nat → Int32) → (Nat → Int64) → Prop} {lv0 : Nat → Int32} {nq ni qu iv ln ct pr bb bc ra dc : Int32} {pi qa od cl bs wt ab co so fc fp sa sh hf su : Nat → Int32} {wi : Nat → Int64} {q b y : Nat} (hqu : qu = nI q) (h1 : 1 ≤ q) (h2 : q ≤ 8) (hb : b < 4) (hy : y < 8)
    (hs : ∀ m, m < 64 → su m = jp_S pi b (m % 8) (m / 8))
    (hJ : ∀ lv, (∀ m, m < 256 → m / 64 ≠ b → lv m = lv0 m) → (∀ m, 64 * b ≤ m → m < 64 * b + 8 * (y + 1) → lv m = jp_L pi qu m) → J (nI (y + 1)) pi qa od cl bs wt ab co so fc fp sa lv sh hf su wi) :
    ∀ d j : Nat, j + d = 8 → ∀ lv, (∀ m, m < 256 → m / 64 ≠ b → lv m = lv0 m) → (∀ m, 64 * b ≤ m → m < 64 * b + 8 * y + j → lv m = jp_L pi qu m) → wX_quantise_15 post J (nI b) (nI y) nq ni qu iv ln ct pr bb bc ra dc (d + 1) (nI j) pi qa od cl bs wt ab co so fc fp sa lv sh hf su wi := by
  intro d
  induction d with
  | zero =>
    intro j hj lv hh hl
    obtain rfl : j = 8 := by omega
    exact br_t (by decide) (nm_r (nI_1 y) (hJ lv hh (fun m hm hm2 => hl m hm (by omega))))
  | succ d ih =>
    intro j hj lv hh hl
    have e2 : nI y * 8 + nI j = nI (8 * y + j) := by
      rw [show (8 : Int32) = nI 8 from rfl, pk_mul, nI_add, Nat.mul_comm]
    have e3 : (nI b * 64 + nI y * 8) + nI j = nI (64 * b + 8 * y + j) := by
      rw [show (64 : Int32) = nI 64 from rfl, show (8 : Int32) = nI 8 from rfl, pk_mul, pk_mul, nI_add, nI_add, Nat.mul_comm, Nat.mul_comm y]
    have hd := jp_d_bd (u := j) (v := y) h1 h2 (by omega) hy
    have ed : (8192 * qu) * ((2 + nI j) + nI y) = nI (8192 * q * (2 + j + y)) := by rw [hqu]; exact jp_d_nat
    have d0 : ¬ (8192 * qu) * ((2 + nI j) + nI y) ≤ 0 := by rw [ed]; exact nI_nle (by omega) (by omega)
    have d1 : ¬ 2 * ((8192 * qu) * ((2 + nI j) + nI y)) = 0 := by
      rw [ed, show (2 : Int32) = nI 2 from rfl, pk_mul]; exact nI_ne0 (by omega) (by omega)
    have key : ∀ x, x = jp_L pi qu (64 * b + 8 * y + j) → wX_quantise_15 post J (nI b) (nI y) nq ni qu iv ln ct pr bb bc ra dc (d + 1) (nI (j + 1)) pi qa od cl bs wt ab co so fc fp sa (upd lv (64 * b + 8 * y + j) x) sh hf su wi := by
      intro x hx
      refine ih (j + 1) (by omega) _ (fun m hm hm2 => ?_) (fun m hm hm2 => ?_)
      · rw [pk_un (by omega)]
        exact hh m hm hm2
      · by_cases e : m = 64 * b + 8 * y + j
        · rw [e, pk_us, hx]
        · rw [pk_un e]
          exact hl m hm (by omega)
    have hS := hs (8 * y + j) (by omega)
    rw [show (8 * y + j) / 8 = y by omega, show (8 * y + j) % 8 = j by omega] at hS
    have hL := jp_L_at pi qu (b := b) hy (show j < 8 by omega)
    rw [← hS] at hL
    unfold jp_Q at hL
    refine br_f (nI_ge (b := 8) (by omega) (by decide)) ?_
    unfold wpX_step
    dsimp only
    rw [e2, nI_clamp (by omega)]
    refine ⟨vp_in_nI (by omega) (by decide), nm_e (br_c (fun z => ?_) (fun z => ?_))⟩
    · refine br_f d0 ⟨d1, br_t z ?_⟩
      rw [e3, nI_clamp (by omega)]
      rw [if_pos z] at hL
      exact ⟨vp_in_nI (by omega) (by decide), nm_e (nm_r (nI_1 j) (key _ hL.symm))⟩
    · refine br_f d0 ⟨d1, br_f z ?_⟩
      rw [e3, nI_clamp (by omega)]
      rw [if_neg z] at hL
      exact ⟨vp_in_nI (by omega) (by decide), nm_e (nm_r (nI_1 j) (key _ hL.symm))⟩
theorem jp_xqu7 {post : SX → Prop} {lv0 : Nat → Int32} {nq ni qu iv ln ct pr bb bc ra dc : Int32} {pi qa od cl bs wt ab co so fc fp sa sh hf su : Nat → Int32} {wi : Nat → Int64} {q b : Nat} (hqu : qu = nI q) (h1 : 1 ≤ q) (h2 : q ≤ 8) (hb : b < 4)
    (hs : ∀ m, m < 64 → su m = jp_S pi b (m % 8) (m / 8))
    (h : ∀ lv, (∀ m, m < 256 → m / 64 ≠ b → lv m = lv0 m) → (∀ m, m < 256 → m / 64 = b → lv m = jp_L pi qu m) → post (nq, ni, qu, iv, ln, ct, pr, bb, bc, ra, dc, pi, qa, od, cl, bs, wt, ab, co, so, fc, fp, sa, lv, sh, hf, su, wi)) :
    ∀ d y : Nat, y + d = 8 → ∀ lv, (∀ m, m < 256 → m / 64 ≠ b → lv m = lv0 m) → (∀ m, 64 * b ≤ m → m < 64 * b + 8 * y → lv m = jp_L pi qu m) → wX_quantise_7 post (nI b) nq ni qu iv ln ct pr bb bc ra dc (d + 1) (nI y) pi qa od cl bs wt ab co so fc fp sa lv sh hf su wi := by
  intro d
  induction d with
  | zero =>
    intro y hy lv hh hl
    obtain rfl : y = 8 := by omega
    exact br_t (by decide) (h lv hh (fun m hm hm2 => hl m (by omega) (by omega)))
  | succ d ih =>
    intro y hy lv hh hl
    exact br_f (nI_ge (b := 8) (by omega) (by decide)) ⟨9, jp_xqu15 hqu h1 h2 hb (by omega) hs (fun lv a b => ih (y + 1) (by omega) lv a b) 8 0 rfl lv hh (fun m hm hm2 => hl m hm (by omega))⟩
theorem jp_xquantise {post : SX → Prop} {nq ni qu iv ln ct pr bb bc ra dc : Int32} {pi qa od cl bs wt ab co so fc fp sa lv sh hf su : Nat → Int32} {wi : Nat → Int64} (hq : ∀ t, t < 9 → qa t = jp_qI t) {q b : Nat} (hqu : qu = nI q) (h1 : 1 ≤ q) (h2 : q ≤ 8) (hb : b < 4)
    (h : ∀ lv' hf' su', (∀ m, m < 256 → m / 64 ≠ b → lv' m = lv m) → (∀ m, m < 256 → m / 64 = b → lv' m = jp_L pi qu m) → post (nq, ni, qu, iv, ln, ct, pr, bb, bc, ra, dc, pi, qa, od, cl, bs, wt, ab, co, so, fc, fp, sa, lv', sh, hf', su', wi)) : wpX_quantise post (nq, ni, qu, iv, ln, ct, pr, bb, bc, ra, dc, pi, qa, od, cl, bs, wt, ab, co, so, fc, fp, sa, lv, sh, hf, su, wi) (nI b) :=
  jp_xtransform hq hb (fun hf' su' hs => ⟨9, jp_xqu7 hqu h1 h2 hb hs (fun lv' a b => h lv' hf' su' a b) 8 0 rfl lv (fun _ _ _ => rfl) (fun m hm hm2 => absurd hm2 (by omega))⟩)
end
section
/-! the lightest, the depth, the lengths -/
def jp_pa (p : Nat) : Int32 := if p = 0 then -1 else nI p
theorem jp_pa_0 : jp_pa 0 = -1 := rfl
theorem jp_pa_p {p : Nat} (h : p ≠ 0) : jp_pa p = nI p := if_neg h
def jp_Ti (wt ab : Nat → Int32) (W A : Nat → Nat) : Prop := ∀ k, k < 544 → wt k = nI (W k) ∧ W k ≤ 300 ∧ ab k = jp_pa (A k) ∧ A k < 544
def jp_Bt (fr to : Nat) (W A : Nat → Nat) (m k : Nat) (best : Int32) : Prop :=
  (best = -1 ∧ ∀ y, y < k → ¬ jp_lv fr to W A m y) ∨ ∃ x, x < k ∧ best = nI x ∧ jp_lv fr to W A m x ∧ ∀ y, y < k → jp_lv fr to W A m y → W x ≤ W y
theorem jp_Bt_skip {fr to : Nat} {W A : Nat → Nat} {m k : Nat} {best : Int32} (h : jp_Bt fr to W A m k best) (hk : ¬ jp_lv fr to W A m k) : jp_Bt fr to W A m (k + 1) best := by
  rcases h with ⟨h1, h2⟩ | ⟨x, h1, h2, h3, h4⟩
  · refine Or.inl ⟨h1, fun y hy => ?_⟩
    by_cases e : y = k
    · rw [e]; exact hk
    · exact h2 y (by omega)
  · refine Or.inr ⟨x, by omega, h2, h3, fun y hy hl => ?_⟩
    by_cases e : y = k
    · rw [e] at hl; exact absurd hl hk
    · exact h4 y (by omega) hl
theorem jp_xli6 {post : Int32 → Prop} {nq ni qu iv ln ct pr bb bc ra dc : Int32} {pi qa od cl bs wt ab co so fc fp sa lv sh hf su : Nat → Int32} {wi : Nat → Int64} {fr to m : Nat} {W A : Nat → Nat} (t : jp_Ti wt ab W A) (hm : m ≤ 544) (hto : to ≤ 272)
    (h : ∀ best, jp_Bt fr to W A m m best → post best) :
    ∀ d k : Nat, k + d = m → fr ≤ k → ∀ best, jp_Bt fr to W A m k best → wX_lightest_6 post (nI to) 272 (nI m) nq ni qu iv ln ct pr bb bc ra dc pi qa od cl bs wt ab co so fc fp sa lv sh hf su wi (d + 1) best (nI k) := by
  intro d
  induction d with
  | zero =>
    intro k hk gf best hb
    obtain rfl : k = m := by omega
    exact br_t (nI_le (Nat.le_refl _) (by omega)) (h best hb)
  | succ d ih =>
    intro k hk gf best hb
    have own : (k < to ∨ 272 ≤ k) → wX_lightest_30 post (wX_lightest_6 post (nI to) 272 (nI m) nq ni qu iv ln ct pr bb bc ra dc pi qa od cl bs wt ab co so fc fp sa lv sh hf su wi (d + 1)) (nI to) 272 (nI m) best (nI k) 1 nq ni qu iv ln ct pr bb bc ra dc pi qa od cl bs wt ab co so fc fp sa lv sh hf su wi := by
      intro ho
      obtain ⟨t1, t2, t3, t4⟩ := t k (by omega)
      have hi : vp_in (nI k) 544 := vp_in_nI (by omega) (by decide)
      refine br_f (by decide) ⟨hi, ?_⟩
      rw [nI_clamp (by omega), t1, t3]
      refine pk_le (W k) 0 (fun z => nm_r (nI_1 k) (ih (k + 1) (by omega) (by omega) best (jp_Bt_skip hb fun q => ?_))) (fun z => ⟨hi, ?_⟩)
      · have := q.2.2.2.1; omega
      · by_cases a0 : A k = 0
        · have lk : jp_lv fr to W A m k := ⟨gf, ho, by omega, z, a0⟩
          rw [a0, jp_pa_0]
          refine br_f (by decide) ?_
          rcases hb with ⟨rfl, h2⟩ | ⟨x, h1, rfl, h3, h4⟩
          · refine br_t (by decide) (nm_r (nI_1 k) (ih (k + 1) (by omega) (by omega) _ (Or.inr ⟨k, by omega, rfl, lk, fun y hy hl => ?_⟩)))
            by_cases e : y = k
            · rw [e]; exact Nat.le_refl _
            · exact absurd hl (h2 y (by omega))
          · obtain ⟨s1, s2, _, _⟩ := t x (by omega)
            refine br_f (nI_pos (by omega)) ⟨hi, vp_in_nI (by omega) (by decide), ?_⟩
            rw [nI_clamp (by omega), s1]
            refine pk_le (W x) (W k) (fun q => nm_r (nI_1 k) (ih (k + 1) (by omega) (by omega) _ (Or.inr ⟨x, by omega, rfl, h3, fun y hy hl => ?_⟩))) (fun q => nm_r (nI_1 k) (ih (k + 1) (by omega) (by omega) _ (Or.inr ⟨k, by omega, rfl, lk, fun y hy hl => ?_⟩)))
            · by_cases e : y = k
              · rw [e]; exact q
              · exact h4 y (by omega) hl
            · by_cases e : y = k
              · rw [e]; exact Nat.le_refl _
              · have := h4 y (by omega) hl; omega
        · rw [jp_pa_p a0]
          exact br_t (nI_pos' (by omega)) (nm_r (nI_1 k) (ih (k + 1) (by omega) (by omega) best (jp_Bt_skip hb fun q => a0 q.2.2.2.2)))
    refine br_f (nI_ge (by omega) (by omega)) ?_
    refine pk_lt k to (fun z => own (Or.inl z)) (fun z => ?_)
    refine pk_lt k 272 (fun z2 => br_t rfl (nm_r (nI_1 k) (ih (k + 1) (by omega) (by omega) best (jp_Bt_skip hb fun q => ?_)))) (fun z2 => own (Or.inr z2))
    have := q.2.1; omega
theorem jp_xlightest {post : Int32 → Prop} {nq ni qu iv ln ct pr bb bc ra dc : Int32} {pi qa od cl bs wt ab co so fc fp sa lv sh hf su : Nat → Int32} {wi : Nat → Int64} {fr to m : Nat} {W A : Nat → Nat} (t : jp_Ti wt ab W A) (hm : m ≤ 544) (hto : to ≤ 272) (gf : fr ≤ m)
    (h0 : (∀ y, ¬ jp_lv fr to W A m y) → post (-1))
    (h1 : ∀ x, jp_lv fr to W A m x → (∀ y, jp_lv fr to W A m y → W x ≤ W y) → post (nI x)) : wpX_lightest post (nq, ni, qu, iv, ln, ct, pr, bb, bc, ra, dc, pi, qa, od, cl, bs, wt, ab, co, so, fc, fp, sa, lv, sh, hf, su, wi) (nI fr) (nI to) 272 (nI m) := by
  refine ⟨m - fr + 1, jp_xli6 t hm hto (fun best hb => ?_) (m - fr) fr (by omega) (Nat.le_refl _) (-1) (Or.inl ⟨rfl, fun y hy q => ?_⟩)⟩
  · rcases hb with ⟨rfl, h2⟩ | ⟨x, _, rfl, h3, h4⟩
    · exact h0 fun y q => h2 y q.2.2.1 q
    · exact h1 x h3 fun y q => h4 y q.2.2.1 q
  · have := q.1; omega
theorem jp_xde18 {post : Int32 → Prop} {nq ni qu iv ln ct pr bb bc ra dc : Int32} {pi qa od cl bs wt ab co so fc fp sa lv sh hf su : Nat → Int32} {wi : Nat → Int64} {W A : Nat → Nat} (t : jp_Ti wt ab W A) {x : Nat} (hx : A x = 0) :
    ∀ d k i : Nat, jp_ch A d k x → k < 544 → i + d ≤ 30 → post (nI (if i + d = 0 then 1 else i + d)) → wX_depthOf_18 post nq ni qu iv ln ct pr bb bc ra dc pi qa od cl bs wt ab co so fc fp sa lv sh hf su wi (d + 1) (nI i) (nI k) (nI i) := by
  intro d
  induction d with
  | zero =>
    intro k i hc hk hi hp
    have hc : k = x := hc
    obtain ⟨_, _, t3, _⟩ := t k hk
    refine br_f (nI_ge (b := 32) (by omega) (by decide)) ⟨vp_in_nI hk (by decide), ?_⟩
    rw [nI_clamp (by omega), t3, hc, hx, jp_pa_0]
    refine br_t (by decide) (pk_eq i 0 (fun z => ?_) (fun z => ?_))
    · rw [if_pos (by omega)] at hp; exact hp
    · rw [if_neg (by omega)] at hp; exact hp
  | succ d ih =>
    intro k i hc hk hi hp
    obtain ⟨h1, h2⟩ := hc
    obtain ⟨_, _, t3, t4⟩ := t k hk
    refine br_f (nI_ge (b := 32) (by omega) (by decide)) ⟨vp_in_nI hk (by decide), ?_⟩
    rw [nI_clamp (by omega), t3, jp_pa_p h1]
    refine br_f (nI_pos (by omega)) ⟨vp_in_nI hk (by decide), nm_e (nm_r (nI_1 i) (nm_r (nI_1 i) (ih (A k) (i + 1) h2 t4 (by omega) ?_)))⟩
    rw [show i + 1 + d = i + (d + 1) by omega]
    exact hp
theorem jp_xdepthOf {post : Int32 → Prop} {nq ni qu iv ln ct pr bb bc ra dc : Int32} {pi qa od cl bs wt ab co so fc fp sa lv sh hf su : Nat → Int32} {wi : Nat → Int64} {W A : Nat → Nat} (t : jp_Ti wt ab W A) {k : Nat} (hk : k < 544)
    (h0 : W k = 0 → post 0) (h1 : 0 < W k → ∃ d x, A x = 0 ∧ jp_ch A d k x ∧ d ≤ 30 ∧ post (nI (if d = 0 then 1 else d))) : wpX_depthOf post (nq, ni, qu, iv, ln, ct, pr, bb, bc, ra, dc, pi, qa, od, cl, bs, wt, ab, co, so, fc, fp, sa, lv, sh, hf, su, wi) (nI k) := by
  obtain ⟨t1, t2, _, _⟩ := t k hk
  refine ⟨vp_in_nI hk (by decide), ?_⟩
  rw [nI_clamp (by omega), t1]
  refine pk_eq (W k) 0 (fun z => h0 z) (fun z => ?_)
  obtain ⟨d, x, q1, q2, q3, q4⟩ := h1 (by omega)
  refine ⟨d + 1, jp_xde18 t q1 d k 0 q2 hk (by omega) ?_⟩
  rw [Nat.zero_add]
  exact q4
end
section
/-! a round of joining -/
theorem jp_Ti_un {wt ab : Nat → Int32} {W A : Nat → Nat} (t : jp_Ti wt ab W A) {x m : Nat} (hx : A x = 0) : jp_Ti wt (upd (upd ab x (nI m)) x (-1)) W A := by
  intro k hk
  obtain ⟨t1, t2, t3, t4⟩ := t k hk
  refine ⟨t1, t2, ?_, t4⟩
  by_cases e : k = x
  · rw [e, pk_us, hx, jp_pa_0]
  · rw [pk_un e, pk_un e, t3]
def jp_pn (f : Nat → Nat) (x v k : Nat) : Nat := if k = x then v else f k
theorem jp_pn_y {f : Nat → Nat} {x v k : Nat} (h : k = x) : jp_pn f x v k = v := if_pos h
theorem jp_pn_n {f : Nat → Nat} {x v k : Nat} (h : k ≠ x) : jp_pn f x v k = f k := if_neg h
theorem jp_Ti_1 {wt ab : Nat → Int32} {W A : Nat → Nat} (t : jp_Ti wt ab W A) {x m : Nat} (hm : m ≠ 0) (hm2 : m < 544) : jp_Ti wt (upd ab x (nI m)) W (jp_pn A x m) := by
  intro k hk
  obtain ⟨t1, t2, t3, t4⟩ := t k hk
  by_cases e : k = x
  · refine ⟨t1, t2, ?_, ?_⟩
    · rw [jp_pn_y e, e, pk_us, jp_pa_p hm]
    · rw [jp_pn_y e]; exact hm2
  · refine ⟨t1, t2, ?_, ?_⟩
    · rw [pk_un e, jp_pn_n e, t3]
    · rw [jp_pn_n e]; exact t4
theorem jp_Ti_w {wt ab : Nat → Int32} {W A : Nat → Nat} (t : jp_Ti wt ab W A) {x y m : Nat} (hs : W x + W y ≤ 300) (hx : x < 544) (hy : y < 544) : jp_Ti (upd wt m (wt x + wt y)) ab (jp_pn W m (W x + W y)) A := by
  intro k hk
  obtain ⟨t1, t2, t3, t4⟩ := t k hk
  by_cases e : k = m
  · refine ⟨?_, ?_, t3, t4⟩
    · rw [jp_pn_y e, e, pk_us, (t x hx).1, (t y hy).1, nI_add]
    · rw [jp_pn_y e]; exact hs
  · refine ⟨?_, ?_, t3, t4⟩
    · rw [pk_un e, jp_pn_n e, t1]
    · rw [jp_pn_n e]; exact t2
theorem jp_xmlit {post : SX → Prop} {J : Int32 → Int32 → Int32 → (Nat → Int32) → (Nat → Int32) → (Nat → Int32) → (Nat → Int32) → (Nat → Int32) → (Nat → Int32) → (Nat → Int32) → (Nat → Int32) → (Nat → Int32) → (Nat → Int32) → (Nat → Int32) → (Nat → Int32) → (Nat → Int32) → (Nat → Int32) → (Nat → Int32) → (Nat → Int32) → (Nat → Int64) → Prop} {nq ni qu iv ln ct pr bb bc ra dc : Int32} {pi qa od cl bs wt ab co so fc fp sa lv sh hf su : Nat → Int32} {wi : Nat → Int64} {fr to r : Nat} {w W A rt dp : Nat → Nat} (hT : jp_sN w 272 ≤ 300) (hfr : fr ≤ 272) (hto : to ≤ 272) (t : jp_Ti wt ab W A) (H : jp_HI fr to w W A (272 + r) rt dp) (hr : r ≤ 256)
    (hend : ∀ ab', jp_Ti wt ab' W A → (∀ x y, jp_lv fr to W A (272 + r) x → jp_lv fr to W A (272 + r) y → x = y) → J (nI (272 + r)) 0 (nI (r + 1)) pi qa od cl bs wt ab' co so fc fp sa lv sh hf su wi)
    (hmer : r < 255 → ∀ wt' ab' W' A' rt' dp', jp_Ti wt' ab' W' A' → jp_HI fr to w W' A' (272 + (r + 1)) rt' dp' → J (nI (272 + (r + 1))) 1 (nI (r + 1)) pi qa od cl bs wt' ab' co so fc fp sa lv sh hf su wi) :
    wpX_lightest (fun r_37 => ((r_37 < 0 → wX_makeLengths_89 post J (nI fr) (nI to) (nI (272 + r)) (nI r) r_37 nq ni qu iv ln ct pr bb bc ra dc pi qa od cl bs wt ab co so fc fp sa lv sh hf su wi) ∧ (¬ r_37 < 0 → (vp_in r_37 544 ∧ ∀ ab', ab' = upd ab r_37.toNatClampNeg (nI (272 + r)) → wX_makeLengths_89 post J (nI fr) (nI to) (nI (272 + r)) (nI r) r_37 nq ni qu iv ln ct pr bb bc ra dc pi qa od cl bs wt ab' co so fc fp sa lv sh hf su wi)))) (nq, ni, qu, iv, ln, ct, pr, bb, bc, ra, dc, pi, qa, od, cl, bs, wt, ab, co, so, fc, fp, sa, lv, sh, hf, su, wi) (nI fr) (nI to) 272 (nI (272 + r)) := by
  refine jp_xlightest t (by omega) hto (by omega) (fun n0 => br_t (by decide) ?_) (fun x lx mx => ?_)
  · exact jp_xlightest t (by omega) hto (by omega) (fun _ => br_t (by decide) (br_t rfl (br_t (by decide) (nm_r (nI_1 r) (hend ab t fun x y q => absurd q (n0 x)))))) (fun x lx _ => absurd lx (n0 x))
  · have xb : x < 544 := by have := lx.2.2.1; omega
    have xn : ¬ nI x < 0 := nI_pos (by omega)
    have xi : vp_in (nI x) 544 := vp_in_nI xb (by decide)
    by_cases hm : 272 + r < 544
    · refine br_f xn ⟨xi, nm_e ?_⟩
      rw [nI_clamp (by omega)]
      have l1 : ∀ y, jp_lv fr to W (jp_pn A x (272 + r)) (272 + r) y ↔ jp_lv fr to W A (272 + r) y ∧ y ≠ x := by
        intro y
        constructor
        · rintro ⟨a1, a2, a3, a4, a5⟩
          have e : y ≠ x := by intro e; rw [jp_pn_y e] at a5; omega
          rw [jp_pn_n e] at a5
          exact ⟨⟨a1, a2, a3, a4, a5⟩, e⟩
        · rintro ⟨⟨a1, a2, a3, a4, a5⟩, e⟩
          exact ⟨a1, a2, a3, a4, by rw [jp_pn_n e]; exact a5⟩
      refine jp_xlightest (jp_Ti_1 t (by omega) hm) (by omega) hto (by omega) (fun n1 => ?_) (fun y ly my => ?_)
      · have un : ∀ z, jp_lv fr to W A (272 + r) z → z = x := fun z lz => Classical.byContradiction fun q => n1 z ((l1 z).mpr ⟨lz, q⟩)
        refine br_f xn (br_t (by decide) (br_t rfl (br_f xn ⟨xi, nm_e ?_⟩)))
        rw [nI_clamp (by omega)]
        exact nm_r (nI_1 r) (hend _ (jp_Ti_un t lx.2.2.2.2) fun a b la lb => (un a la).trans (un b lb).symm)
      · obtain ⟨ly, yx⟩ := (l1 y).mp ly
        have m5 := jp_HI_m H lx ly (Ne.symm yx) (by omega)
        have yb : y < 544 := by have := ly.2.2.1; omega
        have yi : vp_in (nI y) 544 := vp_in_nI yb (by decide)
        have mi : vp_in (nI (272 + r)) 544 := vp_in_nI hm (by decide)
        have hmb : ∀ z, jp_lv fr to W A (272 + r) z → z ≠ x → W y ≤ W z := fun z lz zx => my z ((l1 z).mpr ⟨lz, zx⟩)
        have eA : ∀ k, jp_pn (jp_pn A x (272 + r)) y (272 + r) k = if k = x ∨ k = y then 272 + r else A k := by
          intro k
          by_cases e : k = y
          · rw [jp_pn_y e, if_pos (Or.inr e)]
          · rw [jp_pn_n e]
            by_cases e2 : k = x
            · rw [jp_pn_y e2, if_pos (Or.inl e2)]
            · rw [jp_pn_n e2, if_neg (by omega)]
        obtain ⟨rt', dp', H'⟩ := jp_HI_j hT hfr H lx ly (Ne.symm yx) m5 mx hmb (W' := jp_pn W (272 + r) (W x + W y)) (A' := jp_pn (jp_pn A x (272 + r)) y (272 + r)) (fun _ => rfl) eA
        have lm : jp_lv fr to (jp_pn W (272 + r) (W x + W y)) (jp_pn (jp_pn A x (272 + r)) y (272 + r)) (272 + r + 1) (272 + r) := by
          refine ⟨by omega, Or.inr (by omega), by omega, ?_, ?_⟩
          · rw [jp_pn_y rfl]; have := lx.2.2.2.1; omega
          · have a := lx.2.2.1
            have b := ly.2.2.1
            rw [eA, if_neg (by omega)]
            exact H.2.2.2.2.2.2.2.1 _ (Nat.le_refl _) hm
        have s3 := jp_HI_W hT H' lm
        rw [jp_pn_y rfl] at s3
        refine br_f xn (br_f (nI_pos (by omega)) (br_f (by decide) ⟨yi, nm_e ⟨xi, yi, mi, nm_e (nm_r (nI_1 _) (nm_r (nI_1 r) ?_))⟩⟩))
        rw [nI_clamp (by omega), nI_clamp (by omega), nI_clamp (by omega)]
        exact hmer (by omega) _ _ _ _ rt' dp' (jp_Ti_w (jp_Ti_1 (jp_Ti_1 t (by omega) hm) (by omega) hm) s3 xb yb) H'
    · omega
theorem jp_xml51 {post : SX → Prop} {nq ni qu iv ln ct pr bb bc ra dc : Int32} {pi qa od cl bs co so fc fp sa lv sh hf su : Nat → Int32} {wi : Nat → Int64} {fr to : Nat} {w : Nat → Nat} (hT : jp_sN w 272 ≤ 300) (hfr : fr ≤ 272) (hto : to ≤ 272)
    (h : ∀ (wt ab : Nat → Int32) (W A dp : Nat → Nat), jp_Ti wt ab W A → (∀ k, k < 272 → W k = w k) →
      jp_sN (fun k => if fr ≤ k ∧ k < to ∧ 0 < w k then 2 ^ (16 - dp k) else 0) 272 ≤ 65536 →
      (∀ k, k < 272 → jp_lf fr to w k → dp k ≤ 11 ∧ ∃ x, A x = 0 ∧ jp_ch A (dp k) k x) → ∃ n180, wX_makeLengths_180 post (nI to) nq ni qu iv ln ct pr bb bc ra dc n180 (nI fr) pi qa od cl bs wt ab co so fc fp sa lv sh hf su wi) :
    ∀ d r : Nat, r + d = 256 → ∀ (wt ab : Nat → Int32) (W A rt dp : Nat → Nat), jp_Ti wt ab W A → jp_HI fr to w W A (272 + r) rt dp → wX_makeLengths_51 post (nI fr) (nI to) nq ni qu iv ln ct pr bb bc ra dc (d + 2) (nI (272 + r)) 1 (nI r) pi qa od cl bs wt ab co so fc fp sa lv sh hf su wi := by
  intro d
  induction d with
  | zero =>
    intro r hr wt ab W A rt dp t H
    refine br_f (nI_ge (b := 272) (by omega) (by decide)) (br_f (by decide) (jp_xmlit hT hfr hto t H (by omega) (fun ab' t' un => ?_) (fun z => absurd z (by omega))))
    obtain ⟨e1, e2⟩ := jp_HI_end hT H un
    exact br_c (fun _ => h wt ab' W A dp t' H.1 e1 e2) (fun _ => br_t rfl (h wt ab' W A dp t' H.1 e1 e2))
  | succ d ih =>
    intro r hr wt ab W A rt dp t H
    refine br_f (nI_ge (b := 272) (by omega) (by decide)) (br_f (by decide) (jp_xmlit hT hfr hto t H (by omega) (fun ab' t' un => ?_) (fun z wt' ab' W' A' rt' dp' t' H' => ih (r + 1) (by omega) wt' ab' W' A' rt' dp' t' H')))
    obtain ⟨e1, e2⟩ := jp_HI_end hT H un
    exact br_c (fun _ => h wt ab' W A dp t' H.1 e1 e2) (fun _ => br_t rfl (h wt ab' W A dp t' H.1 e1 e2))
theorem jp_xml180 {post : SX → Prop} {cl0 : Nat → Int32} {nq ni qu iv ln ct pr bb bc ra dc : Int32} {pi qa od bs wt ab co so fc fp sa lv sh hf su : Nat → Int32} {wi : Nat → Int64} {fr to : Nat} {w W A dp l : Nat → Nat} (hto : to ≤ 272) (t : jp_Ti wt ab W A) (hW : ∀ k, k < 272 → W k = w k)
    (hc : ∀ k, k < 272 → jp_lf fr to w k → dp k ≤ 11 ∧ ∃ x, A x = 0 ∧ jp_ch A (dp k) k x) (hl : ∀ k, l k = if w k = 0 then 0 else if dp k = 0 then 1 else dp k)
    (h : ∀ cl, (∀ k, k < 272 → ¬ (fr ≤ k ∧ k < to) → cl k = cl0 k) → (∀ k, fr ≤ k → k < to → cl k = nI (l k)) → post (nq, ni, qu, iv, ln, ct, pr, bb, bc, ra, dc, pi, qa, od, cl, bs, wt, ab, co, so, fc, fp, sa, lv, sh, hf, su, wi)) :
    ∀ d x : Nat, x + d = to → fr ≤ x → ∀ cl, (∀ k, k < 272 → ¬ (fr ≤ k ∧ k < to) → cl k = cl0 k) → (∀ k, fr ≤ k → k < x → cl k = nI (l k)) → wX_makeLengths_180 post (nI to) nq ni qu iv ln ct pr bb bc ra dc (d + 1) (nI x) pi qa od cl bs wt ab co so fc fp sa lv sh hf su wi := by
  intro d
  induction d with
  | zero =>
    intro x hx fx cl h1 h2
    obtain rfl : x = to := by omega
    exact br_t (nI_le (Nat.le_refl _) (by omega)) (h cl h1 h2)
  | succ d ih =>
    intro x hx fx cl h1 h2
    refine br_f (nI_ge (by omega) (by omega)) ?_
    have key : ∀ v, v = nI (l x) → (vp_in (nI x) 272 ∧ ∀ c, c = upd cl (nI x).toNatClampNeg v → ∀ y, y = nI x + 1 → wX_makeLengths_180 post (nI to) nq ni qu iv ln ct pr bb bc ra dc (d + 1) y pi qa od c bs wt ab co so fc fp sa lv sh hf su wi) := by
      intro v hv
      refine ⟨vp_in_nI (by omega) (by decide), nm_e (nm_r (nI_1 x) ?_)⟩
      rw [nI_clamp (by omega)]
      refine ih (x + 1) (by omega) (by omega) _ (fun k hk hn => ?_) (fun k hk hk2 => ?_)
      · rw [pk_un (by omega)]; exact h1 k hk hn
      · by_cases e : k = x
        · rw [e, pk_us, hv]
        · rw [pk_un e]; exact h2 k hk (by omega)
    refine jp_xdepthOf t (by omega) (fun z => key 0 ?_) (fun z => ?_)
    · rw [hW x (by omega)] at z
      rw [hl, if_pos z]; rfl
    · rw [hW x (by omega)] at z
      obtain ⟨c1, y, c2, c3⟩ := hc x (by omega) ⟨fx, by omega, z⟩
      refine ⟨dp x, y, c2, c3, by omega, key _ ?_⟩
      rw [hl, if_neg (show ¬ w x = 0 by omega)]
/-- above and the weights of the joined ones at first -/
theorem jp_xml7 {post : SX → Prop} {wt0 : Nat → Int32} {nq ni qu iv ln ct pr bb bc ra dc : Int32} {pi qa od cl bs co so fc fp sa lv sh hf su : Nat → Int32} {wi : Nat → Int64} {x1 x2 x3 : Int32}
    (h : ∀ wt ab, (∀ k, k < 272 → wt k = wt0 k) → (∀ k, 272 ≤ k → k < 544 → wt k = 0) → (∀ k, k < 544 → ab k = -1) → ∃ n51, wX_makeLengths_51 post x1 x2 nq ni qu iv ln ct pr bb bc ra dc n51 x3 1 0 pi qa od cl bs wt ab co so fc fp sa lv sh hf su wi) :
    ∀ d x : Nat, x + d = 544 → ∀ wt ab, (∀ k, k < 272 → wt k = wt0 k) → (∀ k, 272 ≤ k → k < x → wt k = 0) → (∀ k, k < x → ab k = -1) → wX_makeLengths_7 post x1 x2 x3 nq ni qu iv ln ct pr bb bc ra dc (d + 1) (nI x) pi qa od cl bs wt ab co so fc fp sa lv sh hf su wi := by
  intro d
  induction d with
  | zero =>
    intro x hx wt ab h1 h2 h3
    obtain rfl : x = 544 := by omega
    exact br_t (by decide) (h wt ab h1 h2 h3)
  | succ d ih =>
    intro x hx wt ab h1 h2 h3
    refine br_f (nI_ge (b := 544) (by omega) (by decide)) ⟨vp_in_nI (by omega) (by decide), nm_e ?_⟩
    rw [nI_clamp (by omega)]
    have a3 : ∀ k, k < x + 1 → upd ab x (-1) k = -1 := by
      intro k hk
      by_cases e : k = x
      · rw [e, pk_us]
      · rw [pk_un e]; exact h3 k (by omega)
    refine pk_lt x 272 (fun z => nm_r (nI_1 x) (ih (x + 1) (by omega) wt _ h1 (fun k hk hk2 => absurd hk2 (by omega)) a3)) (fun z => ⟨vp_in_nI (by omega) (by decide), nm_e (nm_r (nI_1 x) (ih (x + 1) (by omega) _ _ (fun k hk => ?_) (fun k hk hk2 => ?_) a3))⟩)
    · rw [pk_un (by omega)]; exact h1 k hk
    · by_cases e : k = x
      · rw [e, pk_us]
      · rw [pk_un e]; exact h2 k hk (by omega)
def jp_w0 (w : Nat → Nat) (k : Nat) : Nat := if k < 272 then w k else 0
theorem jp_xmakeLengths {post : SX → Prop} {nq ni qu iv ln ct pr bb bc ra dc : Int32} {pi qa od cl bs wt ab co so fc fp sa lv sh hf su : Nat → Int32} {wi : Nat → Int64} {fr to : Nat} {w : Nat → Nat} (hft : fr ≤ to) (hto : to ≤ 272) (h256 : to ≤ fr + 256) (hw : ∀ k, k < 272 → wt k = nI (w k)) (hT : jp_sN w 272 ≤ 300)
    (h : ∀ (cl' wt' ab' : Nat → Int32) (l : Nat → Nat), (∀ k, k < 272 → wt' k = nI (w k)) → (∀ k, k < 272 → ¬ (fr ≤ k ∧ k < to) → cl' k = cl k) →
      (∀ k, fr ≤ k → k < to → cl' k = nI (l k) ∧ (0 < w k → 1 ≤ l k) ∧ l k ≤ 11) →
      jp_sN (fun k => if fr ≤ k ∧ 1 ≤ l k then 2 ^ (16 - l k) else 0) to ≤ 65536 → post (nq, ni, qu, iv, ln, ct, pr, bb, bc, ra, dc, pi, qa, od, cl', bs, wt', ab', co, so, fc, fp, sa, lv, sh, hf, su, wi)) : wpX_makeLengths post (nq, ni, qu, iv, ln, ct, pr, bb, bc, ra, dc, pi, qa, od, cl, bs, wt, ab, co, so, fc, fp, sa, lv, sh, hf, su, wi) (nI fr) (nI to) := by
  refine ⟨545, jp_xml7 (x3 := 272) (fun wt' ab' h1 h2 h3 => ?_) 544 0 rfl wt ab (fun _ _ => rfl) (fun k _ hk => absurd hk (by omega)) (fun k hk => absurd hk (by omega))⟩
  have ti : jp_Ti wt' ab' (jp_w0 w) (fun _ => 0) := by
    intro k hk
    refine ⟨?_, ?_, by rw [h3 k hk]; rfl, show 0 < 544 by decide⟩
    · unfold jp_w0
      by_cases e : k < 272
      · rw [if_pos e, h1 k e, hw k e]
      · rw [if_neg e, h2 k (by omega) hk]; rfl
    · unfold jp_w0
      by_cases e : k < 272
      · rw [if_pos e]; exact Nat.le_trans (jp_sN_one e) hT
      · rw [if_neg e]; exact Nat.zero_le _
  obtain ⟨rt, dp, H⟩ := jp_HI_0 (fr := fr) (to := to) (w := w) (W := jp_w0 w) (A := fun _ => 0) hto h256 (fun k hk => if_pos hk) (fun _ _ => rfl)
  refine ⟨258, jp_xml51 hT (by omega) hto (fun wt2 ab2 W A dp t hW hK hc => ?_) 256 0 rfl wt' ab' _ _ rt dp ti H⟩
  obtain ⟨l, hl⟩ : ∃ l : Nat → Nat, ∀ k, l k = if w k = 0 then 0 else if dp k = 0 then 1 else dp k := ⟨_, fun _ => rfl⟩
  refine ⟨to - fr + 1, jp_xml180 hto t hW hc hl (fun cl' c1 c2 => ?_) (to - fr) fr (by omega) (Nat.le_refl _) cl (fun _ _ _ => rfl) (fun k q1 q2 => absurd q2 (by omega))⟩
  refine h cl' wt2 ab2 l (fun k hk => by rw [(t k (by omega)).1, hW k hk]) c1 (fun k q1 q2 => ⟨c2 k q1 q2, ?_, ?_⟩) ?_
  · intro z
    rw [hl, if_neg (by omega)]
    split <;> omega
  · rw [hl]
    by_cases z : w k = 0
    · rw [if_pos z]; omega
    · have := (hc k (by omega) ⟨q1, q2, by omega⟩).1
      rw [if_neg z]
      split <;> omega
  · have e : 272 = to + (272 - to) := by omega
    rw [e, jp_sN_app] at hK
    refine Nat.le_trans (Nat.le_trans (jp_sN_le fun k hk => ?_) (Nat.le_add_right _ _)) hK
    by_cases q : fr ≤ k ∧ 1 ≤ l k
    · have w0 : 0 < w k := by
        apply Nat.pos_of_ne_zero
        intro z
        have := hl k
        rw [if_pos z] at this
        omega
      rw [if_pos q, if_pos ⟨q.1, hk, w0⟩]
      apply Nat.pow_le_pow_right (by decide)
      have := hl k
      rw [if_neg (by omega)] at this
      split at this <;> omega
    · rw [if_neg q]; exact Nat.zero_le _
end
section
/-! the codes -/
def jp_M1 (l : Nat → Nat) (fr to N k : Nat) (co so co0 so0 : Nat → Int32) : Prop :=
  (∀ j, fr ≤ j → j < to → 1 ≤ l j → (l j < N ∨ l j = N ∧ j < k) → co j = nI (jp_C l fr to (l j) + jp_ct l fr (l j) j) ∧ so (jp_P l fr to (l j) + jp_ct l fr (l j) j) = nI j) ∧
  ∀ j, ¬ (fr ≤ j ∧ j < to) → co j = co0 j ∧ so j = so0 j
def jp_M2 (l : Nat → Nat) (fr to t N : Nat) (fc fp sa fc0 fp0 sa0 : Nat → Int32) : Prop :=
  (∀ m, 1 ≤ m → m < N → fc (t * 17 + m) = nI (jp_C l fr to m) ∧ fp (t * 17 + m) = nI (jp_P l fr to m) ∧ sa (t * 17 + m) = nI (jp_ct l fr m to)) ∧
  ∀ i, ¬ (t * 17 < i ∧ i ≤ t * 17 + 16) → fc i = fc0 i ∧ fp i = fp0 i ∧ sa i = sa0 i
theorem jp_P_ne {l : Nat → Nat} {fr to N k j : Nat} (hj : fr ≤ j) (hjt : j < to) (h1 : 1 ≤ l j) (h : l j < N ∨ l j = N ∧ j < k) : jp_P l fr to (l j) + jp_ct l fr (l j) j < jp_P l fr to N + jp_ct l fr N k := by
  rcases h with h | ⟨h, h2⟩
  · have a := jp_ct_lt (l := l) (n := l j) hj rfl hjt
    have b := jp_P_mono (l := l) (fr := fr) (to := to) h1 (N - l j - 1)
    rw [show l j + (N - l j - 1 + 1) = N by omega] at b
    omega
  · have a := jp_ct_lt (l := l) (n := l j) hj rfl h2
    rw [h] at a ⊢
    omega
theorem jp_xmc47 {post : SX → Prop} {J : Int32 → Int32 → Int32 → (Nat → Int32) → (Nat → Int32) → (Nat → Int32) → (Nat → Int32) → (Nat → Int32) → (Nat → Int32) → (Nat → Int32) → (Nat → Int32) → (Nat → Int32) → (Nat → Int32) → (Nat → Int32) → (Nat → Int32) → (Nat → Int32) → (Nat → Int32) → (Nat → Int32) → (Nat → Int32) → (Nat → Int64) → Prop} {co0 so0 : Nat → Int32} {nq ni qu iv ln ct pr bb bc ra dc : Int32} {pi qa od cl bs wt ab fc fp sa lv sh hf su : Nat → Int32} {wi : Nat → Int64} {fr to t N : Nat} {l : Nat → Nat} (hft : fr ≤ to) (hto : to ≤ 272) (ht : t ≤ 1) (hN1 : 1 ≤ N) (hN2 : N ≤ 16)
    (hK : jp_sN (fun k => if fr ≤ k ∧ 1 ≤ l k then 2 ^ (16 - l k) else 0) to ≤ 65536) (hcl : ∀ k, fr ≤ k → k < to → cl k = nI (l k) ∧ l k ≤ 16) (hfp : fp (t * 17 + N) = nI (jp_P l fr to N))
    (hJ : ∀ co so, jp_M1 l fr to N to co so co0 so0 → J (nI (jp_C l fr to (N + 1))) (nI (jp_P l fr to (N + 1))) (nI (N + 1)) pi qa od cl bs wt ab co so fc fp (upd sa (t * 17 + N) (nI (jp_ct l fr N to))) lv sh hf su wi) :
    ∀ d k : Nat, k + d = to → fr ≤ k → ∀ co so, jp_M1 l fr to N k co so co0 so0 → wX_makeCodes_47 post J (nI fr) (nI to) (nI t) (nI N) nq ni qu iv ln ct pr bb bc ra dc (d + 1) (nI (jp_C l fr to N + jp_ct l fr N k)) (nI (jp_P l fr to N + jp_ct l fr N k)) (nI k) pi qa od cl bs wt ab co so fc fp sa lv sh hf su wi := by
  intro d
  have ei : nI t * 17 + nI N = nI (t * 17 + N) := by rw [show (17 : Int32) = nI 17 from rfl, pk_mul, nI_add]
  have hi : vp_in (nI (t * 17 + N)) 34 := vp_in_nI (by omega) (by decide)
  have b1 := jp_C_big hK hN1 hN2
  have b2 := jp_P_to (l := l) hft hN1
  induction d with
  | zero =>
    intro k hk gf co so hM
    obtain rfl : k = to := by omega
    refine br_t (nI_le (Nat.le_refl _) (by omega)) ?_
    rw [ei]
    refine ⟨hi, hi, ?_⟩
    rw [nI_clamp (by omega), hfp, pk_sub (by omega), Nat.add_sub_cancel_left]
    refine nm_e (nm_r (e' := nI (jp_C l fr k (N + 1))) ?_ (nm_r (nI_1 N) ?_))
    · rw [pk_shlN _ 1 (by decide) (by omega), jp_C_s hN1]
      exact congrArg nI (by omega)
    · have := hJ co so hM
      rw [jp_P_s hN1] at this
      exact this
  | succ d ih =>
    intro k hk gf co so hM
    obtain ⟨c1, c2⟩ := hcl k gf (by omega)
    refine br_f (nI_ge (by omega) (by omega)) ⟨vp_in_nI (by omega) (by decide), ?_⟩
    rw [nI_clamp (by omega), c1]
    refine pk_eq (l k) N (fun z => ?_) (fun z => ?_)
    · have b3 := jp_ct_lt (l := l) (n := N) (j := to) gf z (by omega)
      refine ⟨vp_in_nI (by omega) (by decide), nm_e ⟨vp_in_nI (by omega) (by decide), nm_e (nm_r (nI_1 _) (nm_r (nI_1 _) (nm_r (nI_1 k) ?_)))⟩⟩
      rw [nI_clamp (by omega), Nat.add_assoc, Nat.add_assoc, ← jp_ct_y gf z]
      refine ih (k + 1) (by omega) (by omega) _ _ ⟨fun j j1 j2 j3 j4 => ?_, fun j jn => ?_⟩
      · by_cases e : j = k
        · rw [e, pk_us, z, pk_us]
          exact ⟨rfl, rfl⟩
        · have q := jp_P_ne (k := k) j1 j2 j3 (show l j < N ∨ l j = N ∧ j < k by omega)
          rw [pk_un e, pk_un (by omega)]
          exact hM.1 j j1 j2 j3 (by omega)
      · have q := jp_P_fr (l := l) (fr := fr) (to := to) N
        rw [pk_un (by omega), pk_un (by omega)]
        exact hM.2 j jn
    · refine nm_r (nI_1 k) ?_
      rw [← jp_ct_n (fr := fr) z]
      exact ih (k + 1) (by omega) (by omega) co so ⟨fun j j1 j2 j3 j4 => hM.1 j j1 j2 j3 (by
        rcases j4 with q | ⟨q, q2⟩
        · exact Or.inl q
        · refine Or.inr ⟨q, ?_⟩
          by_cases e : j = k
          · rw [e] at q; exact absurd q z
          · omega), hM.2⟩
theorem jp_xmc9 {post : SX → Prop} {co0 so0 fc0 fp0 sa0 : Nat → Int32} {nq ni qu iv ln ct pr bb bc ra dc : Int32} {pi qa od cl bs wt ab lv sh hf su : Nat → Int32} {wi : Nat → Int64} {fr to t : Nat} {l : Nat → Nat} (hft : fr ≤ to) (hto : to ≤ 272) (ht : t ≤ 1)
    (hK : jp_sN (fun k => if fr ≤ k ∧ 1 ≤ l k then 2 ^ (16 - l k) else 0) to ≤ 65536) (hcl : ∀ k, fr ≤ k → k < to → cl k = nI (l k) ∧ l k ≤ 16)
    (h : ∀ co so fc fp sa, jp_M1 l fr to 17 fr co so co0 so0 → jp_M2 l fr to t 17 fc fp sa fc0 fp0 sa0 → post (nq, ni, qu, iv, ln, ct, pr, bb, bc, ra, dc, pi, qa, od, cl, bs, wt, ab, co, so, fc, fp, sa, lv, sh, hf, su, wi)) :
    ∀ d N : Nat, N + d = 17 → 1 ≤ N → ∀ co so fc fp sa, jp_M1 l fr to N fr co so co0 so0 → jp_M2 l fr to t N fc fp sa fc0 fp0 sa0 → wX_makeCodes_9 post (nI fr) (nI to) (nI t) nq ni qu iv ln ct pr bb bc ra dc (d + 1) (nI (jp_C l fr to N)) (nI (jp_P l fr to N)) (nI N) pi qa od cl bs wt ab co so fc fp sa lv sh hf su wi := by
  intro d
  induction d with
  | zero =>
    intro N hN hN1 co so fc fp sa m1 m2
    obtain rfl : N = 17 := by omega
    exact br_t (by decide) (h co so fc fp sa m1 m2)
  | succ d ih =>
    intro N hN hN1 co so fc fp sa m1 m2
    have ei : nI t * 17 + nI N = nI (t * 17 + N) := by rw [show (17 : Int32) = nI 17 from rfl, pk_mul, nI_add]
    have hi : vp_in (nI (t * 17 + N)) 34 := vp_in_nI (by omega) (by decide)
    refine br_f (nI_nlt (a := 16) (b := N) (by omega) (by decide)) ?_
    rw [ei, nI_clamp (by omega)]
    refine ⟨hi, nm_e ⟨hi, nm_e ⟨to - fr + 1, ?_⟩⟩⟩
    have z := jp_ct_fr l fr N
    have key := jp_xmc47 (post := post) (J := wX_makeCodes_9 post (nI fr) (nI to) (nI t) nq ni qu iv ln ct pr bb bc ra dc (d + 1)) (co0 := co0) (so0 := so0) (fc := upd fc (t * 17 + N) (nI (jp_C l fr to N))) (fp := upd fp (t * 17 + N) (nI (jp_P l fr to N))) (sa := sa) (cl := cl) (pi := pi) (qa := qa) (od := od) (bs := bs) (wt := wt) (ab := ab) (lv := lv) (sh := sh) (hf := hf) (su := su) (wi := wi) (nq := nq) (ni := ni) (qu := qu) (iv := iv) (ln := ln) (ct := ct) (pr := pr) (bb := bb) (bc := bc) (ra := ra) (dc := dc) hft hto ht hN1 (by omega) hK hcl pk_us (fun co so q => ih (N + 1) (by omega) (by omega) co so _ _ _ ⟨fun j j1 j2 j3 j4 => q.1 j j1 j2 j3 (by omega), q.2⟩ ⟨fun m h1 h2 => ?_, fun i hn => ?_⟩) (to - fr) fr (by omega) (Nat.le_refl _) co so m1
    · rw [z, Nat.add_zero, Nat.add_zero] at key
      exact key
    · by_cases e : m = N
      · rw [e, pk_us, pk_us, pk_us]; exact ⟨rfl, rfl, rfl⟩
      · rw [pk_un (by omega), pk_un (by omega), pk_un (by omega)]
        exact m2.1 m h1 (by omega)
    · rw [pk_un (by omega), pk_un (by omega), pk_un (by omega)]
      exact m2.2 i hn
theorem jp_xmakeCodes {post : SX → Prop} {nq ni qu iv ln ct pr bb bc ra dc : Int32} {pi qa od cl bs wt ab co so fc fp sa lv sh hf su : Nat → Int32} {wi : Nat → Int64} {fr to t : Nat} {l : Nat → Nat} (hft : fr ≤ to) (hto : to ≤ 272) (ht : t ≤ 1)
    (hK : jp_sN (fun k => if fr ≤ k ∧ 1 ≤ l k then 2 ^ (16 - l k) else 0) to ≤ 65536) (hcl : ∀ k, fr ≤ k → k < to → cl k = nI (l k) ∧ l k ≤ 16)
    (h : ∀ co' so' fc' fp' sa', jp_M1 l fr to 17 fr co' so' co so → jp_M2 l fr to t 17 fc' fp' sa' fc fp sa → post (nq, ni, qu, iv, ln, ct, pr, bb, bc, ra, dc, pi, qa, od, cl, bs, wt, ab, co', so', fc', fp', sa', lv, sh, hf, su, wi)) : wpX_makeCodes post (nq, ni, qu, iv, ln, ct, pr, bb, bc, ra, dc, pi, qa, od, cl, bs, wt, ab, co, so, fc, fp, sa, lv, sh, hf, su, wi) (nI fr) (nI to) (nI t) := by
  refine ⟨17, jp_xmc9 hft hto ht hK hcl (fun co so fc fp sa m1 m2 => h co so fc fp sa m1 m2) 16 1 rfl (Nat.le_refl _) co so fc fp sa ⟨fun j _ _ h1 h2 => ?_, fun _ _ => ⟨rfl, rfl⟩⟩ ⟨fun m h1 h2 => absurd h2 (by omega), fun _ _ => ⟨rfl, rfl, rfl⟩⟩⟩
  omega
end
section
/-! writing digits -/
def jp_Wr (bs0 : Nat → Int32) (p T : Nat) (ln bb bc : Int32) (bs : Nat → Int32) (β : List Nat) : Prop :=
  ∃ L v c, ln = nI L ∧ bb = nI v ∧ bc = nI c ∧ jp_WR bs p L v c β ∧ 4 * L + c ≤ T ∧ p ≤ L ∧ ∀ i, i < p → bs i = bs0 i
theorem jp_or : ∀ v, v < 128 → ∀ b, b < 2 → (nI v <<< ((1 : Int32) &&& 31)) ||| nI b = nI (2 * v + b) := by decide +kernel
theorem jp_addm1 (a : Int32) : a + (-1) = a - 1 := (Int32.sub_eq_add_neg a 1).symm
theorem jp_WR_c {bs : Nat → Int32} {p l v c : Nat} {β : List Nat} (h : jp_WR bs p l v c β) : c < 8 ∧ v < 128 := by
  obtain ⟨_, _, _, h3, h4⟩ := h
  have : 2 ^ c ≤ 2 ^ 7 := Nat.pow_le_pow_right (by decide) (by omega)
  exact ⟨h3, by omega⟩
theorem jp_xpb4 {post : SX → Prop} {bs0 : Nat → Int32} {nq ni qu iv ct pr ra dc : Int32} {pi qa od cl wt ab co so fc fp sa lv sh hf su : Nat → Int32} {wi : Nat → Int64} {p x : Nat} (hx : x < 2 ^ 31) :
    ∀ n : Nat, n ≤ 31 → ∀ (x3 ln bb bc : Int32) (bs : Nat → Int32) (β : List Nat) (T : Nat), x3 = nI n - 1 → T + n ≤ 7584 → jp_Wr bs0 p T ln bb bc bs β →
      (∀ ln bb bc bs, jp_Wr bs0 p (T + n) ln bb bc bs (β ++ jp_lb x n) → post (nq, ni, qu, iv, ln, ct, pr, bb, bc, ra, dc, pi, qa, od, cl, bs, wt, ab, co, so, fc, fp, sa, lv, sh, hf, su, wi)) → wX_putBits_4 post (nI x) (n + 1) x3 nq ni qu iv ln ct pr bb bc ra dc pi qa od cl bs wt ab co so fc fp sa lv sh hf su wi := by
  intro n
  induction n with
  | zero =>
    intro hn x3 ln bb bc bs β T e3 hT hW h
    subst e3
    refine br_t (by decide) (h ln bb bc bs ?_)
    rw [jp_lb, List.append_nil]
    exact hW
  | succ n ih =>
    intro hn x3 ln bb bc bs β T e3 hT hW h
    rw [nI_pred] at e3
    subst e3
    obtain ⟨L, v, c, rfl, rfl, rfl, hR, hB, hp, hf0⟩ := hW
    obtain ⟨c8, v8⟩ := jp_WR_c hR
    have b2 : x / 2 ^ n % 2 < 2 := Nat.mod_lt _ (by decide)
    have eb : ((nI x >>> (nI n &&& 31)) &&& 1) = nI (x / 2 ^ n % 2) := by
      have : x / 2 ^ n ≤ x := Nat.div_le_self _ _
      rw [pk_shrN hx _ n (jp_sc n (by omega)), pk_andN (by omega) 1 (by decide)]
    refine br_f (nI_pos (by omega)) (nm_r (e' := nI (2 * v + x / 2 ^ n % 2)) (by rw [eb]; exact jp_or v v8 _ b2) (nm_r (nI_1 c) ?_))
    generalize hbd : x / 2 ^ n % 2 = b at b2 eb ⊢
    have el : β ++ jp_lb x (n + 1) = (β ++ [b]) ++ jp_lb x n := by
      rw [jp_lb, hbd, List.append_assoc]; rfl
    refine pk_eq (c + 1) 8 (fun z => ?_) (fun z => ?_)
    · refine And.intro (vp_in_nI (by omega) (by decide)) (nm_e (nm_r (nI_1 L) ?_))
      rw [nI_clamp (by omega)]
      refine pk_eq (2 * v + b) 255 (fun q => ?_) (fun q => ?_)
      · refine And.intro (vp_in_nI (by omega) (by decide)) (nm_e (nm_r (nI_1 (L + 1)) ?_))
        rw [nI_clamp (by omega)]
        refine nm_r (jp_addm1 _) (ih (by omega) _ _ _ _ _ (β ++ [b]) (T + 1) rfl (by omega) ⟨L + 2, 0, 0, rfl, rfl, rfl, jp_WR_b hR b2 z (fun i hi => ?_) ?_ (fun _ => ⟨pk_us, rfl⟩) (fun q2 => absurd q q2), by omega, by omega, fun i hi => ?_⟩ (fun ln bb bc bs hW2 => h ln bb bc bs ?_))
        · rw [pk_un (by omega), pk_un (by omega)]
        · rw [pk_un (by omega), pk_us]
        · rw [pk_un (by omega), pk_un (by omega)]; exact hf0 i hi
        · rw [el, show T + (n + 1) = T + 1 + n by omega]; exact hW2
      · refine nm_r (jp_addm1 _) (ih (by omega) _ _ _ _ _ (β ++ [b]) (T + 1) rfl (by omega) ⟨L + 1, 0, 0, rfl, rfl, rfl, jp_WR_b hR b2 z (fun i hi => ?_) pk_us (fun q2 => absurd q2 q) (fun _ => rfl), by omega, by omega, fun i hi => ?_⟩ (fun ln bb bc bs hW2 => h ln bb bc bs ?_))
        · rw [pk_un (by omega)]
        · rw [pk_un (by omega)]; exact hf0 i hi
        · rw [el, show T + (n + 1) = T + 1 + n by omega]; exact hW2
    · refine nm_r (jp_addm1 _) (ih (by omega) _ _ _ _ _ (β ++ [b]) (T + 1) rfl (by omega) ⟨L, 2 * v + b, c + 1, rfl, rfl, rfl, jp_WR_a hR b2 (by omega), by omega, hp, hf0⟩ (fun ln bb bc bs hW2 => h ln bb bc bs ?_))
      rw [el, show T + (n + 1) = T + 1 + n by omega]; exact hW2
theorem jp_xputBits {post : SX → Prop} {bs0 : Nat → Int32} {nq ni qu iv ln ct pr bb bc ra dc : Int32} {pi qa od cl bs wt ab co so fc fp sa lv sh hf su : Nat → Int32} {wi : Nat → Int64} {p x n T : Nat} {β : List Nat} (hx : x < 2 ^ 31) (hn : n ≤ 31) (hT : T + n ≤ 7584) (hW : jp_Wr bs0 p T ln bb bc bs β)
    (h : ∀ ln' bb' bc' bs', jp_Wr bs0 p (T + n) ln' bb' bc' bs' (β ++ jp_lb x n) → post (nq, ni, qu, iv, ln', ct, pr, bb', bc', ra, dc, pi, qa, od, cl, bs', wt, ab, co, so, fc, fp, sa, lv, sh, hf, su, wi)) : wpX_putBits post (nq, ni, qu, iv, ln, ct, pr, bb, bc, ra, dc, pi, qa, od, cl, bs, wt, ab, co, so, fc, fp, sa, lv, sh, hf, su, wi) (nI x) (nI n) :=
  nm_e ⟨n + 1, jp_xpb4 hx n hn _ ln bb bc bs β T rfl hT hW h⟩
theorem jp_Wr_mono {bs0 : Nat → Int32} {p T T' : Nat} {ln bb bc : Int32} {bs : Nat → Int32} {β : List Nat} (h : jp_Wr bs0 p T ln bb bc bs β) (hT : T ≤ T') : jp_Wr bs0 p T' ln bb bc bs β := by
  obtain ⟨L, v, c, h1, h2, h3, h4, h5, h6, h7⟩ := h
  exact ⟨L, v, c, h1, h2, h3, h4, by omega, h6, h7⟩
theorem jp_vv_pos {v : Int32} (h : ¬ v ≤ 0) : v = nI (jp_vv v) := by
  rw [Int32.le_iff_toInt_le, Int32.toInt_zero] at h
  have hl := v.toInt_lt
  unfold jp_vv
  rw [if_pos (by omega)]
  apply Int32.toInt_inj.mp
  rw [nI_toInt (by omega)]
  omega
theorem jp_vv_neg {v : Int32} (h : v ≤ 0) (hn : jp_n v ≤ 14) : (v + ((1 : Int32) <<< (nI (jp_n v) &&& 31))) - 1 = nI (jp_vv v) := by
  rw [Int32.le_iff_toInt_le, Int32.toInt_zero] at h
  have p14 : 2 ^ jp_n v ≤ 2 ^ 14 := Nat.pow_le_pow_right (by decide) hn
  have e1 : (1 : Int32) <<< (nI (jp_n v) &&& 31) = nI (2 ^ jp_n v) := by
    have := pk_shlN (n := 1) (nI (jp_n v) &&& 31) (jp_n v) (jp_sc _ (by omega)) (by omega)
    rw [Nat.one_mul] at this
    exact this
  have hu : jp_ab v < 2 ^ jp_n v := jp_sz_up _
  have hv := jp_vv_lt (v := v)
  have hp := jp_pw (jp_n v)
  rw [e1]
  unfold jp_vv at hv ⊢
  rw [if_neg (by omega)] at hv ⊢
  unfold jp_ab at hu
  apply Int32.toInt_inj.mp
  rw [nI_toInt (by omega), Int32.toInt_sub, Int32.toInt_add, nI_toInt (by omega), show (1 : Int32).toInt = 1 from by decide]
  generalize 2 ^ jp_n v = P at *
  generalize (2 : Int) ^ jp_n v = R at *
  generalize v.toInt = z at *
  have e2 : (z + (P : Int)).bmod (2 ^ 32) = z + P := Int.bmod_eq_of_le (by omega) (by omega)
  rw [e2, Int.bmod_eq_of_le (by omega) (by omega)]
  omega
/-- a token is written -/
theorem jp_xsymW {post : SX → Prop} {bs0 : Nat → Int32} {nq ni qu iv ln ct pr bb bc ra dc : Int32} {pi qa od cl bs wt ab co so fc fp sa lv sh hf su : Nat → Int32} {wi : Nat → Int64} {C N : Nat → Nat} {p T : Nat} {l : List (Nat × Int32)} {t : Nat × Int32} (hct : ct = 0) (ht : jp_to t) (hcl : cl t.1 = nI (N t.1)) (hco : 1 ≤ N t.1 → co t.1 = nI (C t.1) ∧ C t.1 < 2 ^ 31) (hN : N t.1 ≤ 15)
    (hT : T + 28 ≤ 7584) (hW : jp_Wr bs0 p T ln bb bc bs (jp_tb C N l))
    (h : ∀ ln' bb' bc' bs', jp_Wr bs0 p (T + 28) ln' bb' bc' bs' (jp_tb C N (l ++ [t])) → post (nq, ni, qu, iv, ln', ct, pr, bb', bc', ra, dc, pi, qa, od, cl, bs', wt, ab, co, so, fc, fp, sa, lv, sh, hf, su, wi)) : wpX_symbol post (nq, ni, qu, iv, ln, ct, pr, bb, bc, ra, dc, pi, qa, od, cl, bs, wt, ab, co, so, fc, fp, sa, lv, sh, hf, su, wi) (nI t.1) t.2 (nI (jp_n t.2)) := by
  obtain ⟨t1, t2⟩ := ht
  have n13 := jp_n_le t2
  have vl := jp_vv_lt (v := t.2)
  have p13 : 2 ^ jp_n t.2 ≤ 2 ^ 13 := Nat.pow_le_pow_right (by decide) n13
  have hi : vp_in (nI t.1) 272 := vp_in_nI t1 (by decide)
  refine br_t hct ⟨hi, hi, ?_⟩
  have first : ∀ post' : SX → Prop, (∀ ln' bb' bc' bs', jp_Wr bs0 p (T + N t.1) ln' bb' bc' bs' (jp_tb C N l ++ jp_lb (C t.1) (N t.1)) → post' (nq, ni, qu, iv, ln', ct, pr, bb', bc', ra, dc, pi, qa, od, cl, bs', wt, ab, co, so, fc, fp, sa, lv, sh, hf, su, wi)) → wpX_putBits post' (nq, ni, qu, iv, ln, ct, pr, bb, bc, ra, dc, pi, qa, od, cl, bs, wt, ab, co, so, fc, fp, sa, lv, sh, hf, su, wi) (co t.1) (nI (N t.1)) := by
    intro post' h'
    by_cases z : N t.1 = 0
    · rw [z] at h' ⊢
      rw [jp_lb, List.append_nil] at h'
      exact nm_e ⟨1, br_t (by decide) (h' ln bb bc bs hW)⟩
    · obtain ⟨c1, c2⟩ := hco (by omega)
      rw [c1]
      exact jp_xputBits c2 (by omega) (by omega) hW h'
  rw [nI_clamp (by omega), hcl]
  refine first _ (fun ln1 bb1 bc1 bs1 hW1 => ?_)
  have key : wpX_putBits (fun u => post u) (nq, ni, qu, iv, ln1, ct, pr, bb1, bc1, ra, dc, pi, qa, od, cl, bs1, wt, ab, co, so, fc, fp, sa, lv, sh, hf, su, wi) (nI (jp_vv t.2)) (nI (jp_n t.2)) := by
    refine jp_xputBits (by omega) (by omega) (by omega) hW1 (fun ln2 bb2 bc2 bs2 hW2 => h ln2 bb2 bc2 bs2 (jp_Wr_mono (T := T + N t.1 + jp_n t.2) ?_ (by omega)))
    rw [jp_tb_snoc]
    unfold jp_t1
    rw [← List.append_assoc]
    exact hW2
  refine br_c (fun z => ?_) (fun z => ?_)
  · rw [jp_vv_neg z (by omega)]
    exact key
  · rw [← jp_vv_pos z] at key
    exact key
/-- a token is counted -/
theorem jp_xsymC {post : SX → Prop} {nq ni qu iv ln ct pr bb bc ra dc : Int32} {pi qa od cl bs wt ab co so fc fp sa lv sh hf su : Nat → Int32} {wi : Nat → Int64} {w : Nat → Nat} {t : Nat × Int32} {n : Int32} (hct : ¬ ct = 0) (ht : t.1 < 272) (hw : ∀ k, k < 272 → wt k = nI (w k))
    (h : ∀ wt', (∀ k, k < 272 → wt' k = nI (if k = t.1 then w k + 1 else w k)) → post (nq, ni, qu, iv, ln, ct, pr, bb, bc, ra, dc, pi, qa, od, cl, bs, wt', ab, co, so, fc, fp, sa, lv, sh, hf, su, wi)) : wpX_symbol post (nq, ni, qu, iv, ln, ct, pr, bb, bc, ra, dc, pi, qa, od, cl, bs, wt, ab, co, so, fc, fp, sa, lv, sh, hf, su, wi) (nI t.1) t.2 n := by
  have hi : vp_in (nI t.1) 544 := vp_in_nI (by omega) (by decide)
  refine br_f hct ⟨hi, hi, ?_⟩
  rw [nI_clamp (by omega), hw _ ht]
  refine nm_e (h _ (fun k hk => ?_))
  by_cases e : k = t.1
  · rw [e, pk_us, if_pos rfl, nI_1]
  · rw [pk_un e, if_neg e, hw k hk]
/-- the size of a level -/
theorem jp_xsz16 {post : Int32 → Prop} {nq ni qu iv ln ct pr bb bc ra dc : Int32} {pi qa od cl bs wt ab co so fc fp sa lv sh hf su : Nat → Int32} {wi : Nat → Int64} {a : Nat} (ha : a < 2 ^ 14) (h : post (nI (jp_sz a))) : ∀ d i : Nat, i + d = jp_sz a → wX_sizeOf_16 post (nI a) nq ni qu iv ln ct pr bb bc ra dc pi qa od cl bs wt ab co so fc fp sa lv sh hf su wi (d + 1) (nI i) (nI i) := by
  have hs := jp_sz_le ha
  have e : ∀ i, i < 14 → nI a >>> (nI i &&& 31) = nI (a / 2 ^ i) := fun i hi => pk_shrN (by omega) _ i (jp_sc i (by omega))
  intro d
  induction d with
  | zero =>
    intro i hi
    obtain rfl : i = jp_sz a := by omega
    refine pk_le 14 (jp_sz a) (fun _ => h) (fun z => ?_)
    rw [e _ z]
    refine br_t ?_ h
    have : ¬ jp_sz a < jp_sz a := Nat.lt_irrefl _
    rw [jp_sz_lt] at this
    rw [Decidable.not_not.mp this]
    rfl
  | succ d ih =>
    intro i hi
    have q := jp_sz_lt.mp (show i < jp_sz a by omega)
    have : a / 2 ^ i ≤ a := Nat.div_le_self _ _
    refine br_f (nI_ge (b := 14) (by omega) (by decide)) ?_
    rw [e _ (by omega)]
    exact br_f (nI_ne0 (Nat.pos_of_ne_zero q) (by omega)) (nm_r (nI_1 i) (nm_r (nI_1 i) (ih (i + 1) (by omega))))
theorem jp_xsizeOf {post : Int32 → Prop} {nq ni qu iv ln ct pr bb bc ra dc : Int32} {pi qa od cl bs wt ab co so fc fp sa lv sh hf su : Nat → Int32} {wi : Nat → Int64} {v : Int32} (ha : jp_ab v < 2 ^ 14) (h : post (nI (jp_n v))) : wpX_sizeOf post (nq, ni, qu, iv, ln, ct, pr, bb, bc, ra, dc, pi, qa, od, cl, bs, wt, ab, co, so, fc, fp, sa, lv, sh, hf, su, wi) v := by
  have k := jp_xsz16 (post := post) (a := jp_ab v) (nq := nq) (ni := ni) (qu := qu) (iv := iv) (ln := ln) (ct := ct) (pr := pr) (bb := bb) (bc := bc) (ra := ra) (dc := dc) (pi := pi) (qa := qa) (od := od) (cl := cl) (bs := bs) (wt := wt) (ab := ab) (co := co) (so := so) (fc := fc) (fp := fp) (sa := sa) (lv := lv) (sh := sh) (hf := hf) (su := su) (wi := wi) ha h (jp_sz (jp_ab v)) 0 (by omega)
  unfold jp_ab at ha
  refine br_c (fun z => ⟨jp_sz (jp_ab v) + 1, ?_⟩) (fun z => nm_e ⟨jp_sz (jp_ab v) + 1, ?_⟩)
  · rw [Int32.le_iff_toInt_le, Int32.toInt_zero] at z
    have e : nI (jp_ab v) = v := by
      apply Int32.toInt_inj.mp
      unfold jp_ab
      rw [nI_toInt (by omega)]; omega
    rw [e] at k
    exact k
  · rw [Int32.le_iff_toInt_le, Int32.toInt_zero] at z
    have e : nI (jp_ab v) = -v := by
      apply Int32.toInt_inj.mp
      unfold jp_ab
      rw [nI_toInt (by omega), Int32.toInt_neg, Int.bmod_eq_of_le (by omega) (by omega)]; omega
    rw [e] at k
    exact k
end
section
/-! a block's tokens, for any sink K: segment, number of tokens, the tokens of the segment so far -/
def jp_HS (K : Nat → Nat → List (Nat × Int32) → (Nat → Int32) → Int32 → Int32 → Int32 → (Nat → Int32) → Prop) (nq ni qu iv ct ra dc : Int32) (pi qa od cl ab co so fc fp sa lv sh hf su : Nat → Int32) (wi : Nat → Int64) : Prop :=
  ∀ (d m : Nat) (c : List (Nat × Int32)) (t : Nat × Int32) (wt : Nat → Int32) (ln bb bc : Int32) (bs : Nat → Int32) (pr : Int32) (post : SX → Prop), jp_to t → m < 256 → K d m c wt ln bb bc bs →
    (∀ wt ln bb bc bs, K d (m + 1) (c ++ [t]) wt ln bb bc bs → post (nq, ni, qu, iv, ln, ct, pr, bb, bc, ra, dc, pi, qa, od, cl, bs, wt, ab, co, so, fc, fp, sa, lv, sh, hf, su, wi)) → wpX_symbol post (nq, ni, qu, iv, ln, ct, pr, bb, bc, ra, dc, pi, qa, od, cl, bs, wt, ab, co, so, fc, fp, sa, lv, sh, hf, su, wi) (nI t.1) t.2 (nI (jp_n t.2))
theorem jp_xwb126 {K : Nat → Nat → List (Nat × Int32) → (Nat → Int32) → Int32 → Int32 → Int32 → (Nat → Int32) → Prop} {post : SX → Prop} {J : Int32 → Int32 → Int32 → Int32 → Int32 → Int32 → Int32 → Int32 → Int32 → Int32 → Int32 → Int32 → Int32 → (Nat → Int32) → (Nat → Int32) → (Nat → Int32) → (Nat → Int32) → (Nat → Int32) → (Nat → Int32) → (Nat → Int32) → (Nat → Int32) → (Nat → Int32) → (Nat → Int32) → (Nat → Int32) → (Nat → Int32) → (Nat → Int32) → (Nat → Int32) → (Nat → Int32) → (Nat → Int32) → (Nat → Int64) → Prop} {nq ni qu iv ln ct pr bb bc ra dc : Int32} {pi qa od cl bs wt ab co so fc fp sa lv sh hf su : Nat → Int32} {wi : Nat → Int64}
    (hs : jp_HS K nq ni qu iv ct ra dc pi qa od cl ab co so fc fp sa lv sh hf su wi) {b k r d m : Nat} {v : Int32} {c : List (Nat × Int32)} (hv : jp_ab v < 2 ^ 13) (hr : r ≤ 15) (hm : m < 256) (hK : K d m c wt ln bb bc bs)
    (hJ : ∀ wt ln bb bc bs, K d (m + 1) (c ++ [(r * 16 + jp_n v, v)]) wt ln bb bc bs → J 0 (nI (k + 1)) nq ni qu iv ln ct pr bb bc ra dc pi qa od cl bs wt ab co so fc fp sa lv sh hf su wi) : wX_writeBlock_126 post J (nI b) (nI r) (nI k) v nq ni qu iv ln ct pr bb bc ra dc pi qa od cl bs wt ab co so fc fp sa lv sh hf su wi := by
  have n13 := jp_n_le hv
  have e : nI r * 16 + nI (jp_n v) = nI (r * 16 + jp_n v) := by rw [show (16 : Int32) = nI 16 from rfl, pk_mul, nI_add]
  refine jp_xsizeOf (by omega) ?_
  rw [e]
  exact hs d m c (r * 16 + jp_n v, v) wt ln bb bc bs pr _ ⟨by show r * 16 + jp_n v < 272; omega, hv⟩ hm hK (fun wt ln bb bc bs hK' => nm_r (nI_1 k) (hJ wt ln bb bc bs hK'))
theorem jp_xwb91 {K : Nat → Nat → List (Nat × Int32) → (Nat → Int32) → Int32 → Int32 → Int32 → (Nat → Int32) → Prop} {post : SX → Prop} {J : Int32 → Int32 → Int32 → Int32 → Int32 → Int32 → Int32 → Int32 → Int32 → Int32 → Int32 → Int32 → Int32 → (Nat → Int32) → (Nat → Int32) → (Nat → Int32) → (Nat → Int32) → (Nat → Int32) → (Nat → Int32) → (Nat → Int32) → (Nat → Int32) → (Nat → Int32) → (Nat → Int32) → (Nat → Int32) → (Nat → Int32) → (Nat → Int32) → (Nat → Int32) → (Nat → Int32) → (Nat → Int32) → (Nat → Int64) → Prop} {nq ni qu iv ct pr ra dc : Int32} {pi qa od cl ab co so fc fp sa lv sh hf su : Nat → Int32} {wi : Nat → Int64}
    (hs : jp_HS K nq ni qu iv ct ra dc pi qa od cl ab co so fc fp sa lv sh hf su wi) {b k d : Nat} {v : Int32} (hv : jp_ab v < 2 ^ 13) :
    ∀ (z r i m : Nat) (c : List (Nat × Int32)) (wt : Nat → Int32) (ln bb bc : Int32) (bs : Nat → Int32), r / 16 = z → i + z ≤ 3 → m + z < 256 → K d m c wt ln bb bc bs →
      (∀ wt ln bb bc bs, K d (m + (z + 1)) (c ++ (List.replicate z (240, 0) ++ [(r % 16 * 16 + jp_n v, v)])) wt ln bb bc bs → J 0 (nI (k + 1)) nq ni qu iv ln ct pr bb bc ra dc pi qa od cl bs wt ab co so fc fp sa lv sh hf su wi) →
      wX_writeBlock_91 post J (nI b) (nI k) v (z + 1) (nI r) (nI i) nq ni qu iv ln ct pr bb bc ra dc pi qa od cl bs wt ab co so fc fp sa lv sh hf su wi := by
  intro z
  induction z with
  | zero =>
    intro r i m c wt ln bb bc bs hz hi hm hK hJ
    refine br_f (nI_ge (b := 4) (by omega) (by decide)) (br_t (nI_le (b := 15) (by omega) (by decide)) (jp_xwb126 hs hv (by omega) (by omega) hK (fun wt ln bb bc bs hK' => hJ wt ln bb bc bs ?_)))
    rw [show r % 16 = r by omega]
    exact hK'
  | succ z ih =>
    intro r i m c wt ln bb bc bs hz hi hm hK hJ
    refine br_f (nI_ge (b := 4) (by omega) (by decide)) (br_f (nI_ge (a := 15) (by omega) (by omega)) ?_)
    have q := hs d m c (240, 0) wt ln bb bc bs pr
    rw [jp_n0] at q
    refine q _ ⟨by decide, by decide⟩ (by omega) hK (fun wt ln bb bc bs hK' => nm_r (e' := nI (r - 16)) (pk_sub (b := 16) (by omega)) (nm_r (nI_1 i) ?_))
    refine ih (r - 16) (i + 1) (m + 1) (c ++ [(240, 0)]) wt ln bb bc bs (by omega) (by omega) (by omega) hK' (fun wt ln bb bc bs hK2 => hJ wt ln bb bc bs ?_)
    rw [show (r - 16) % 16 = r % 16 by omega, show m + 1 + (z + 1) = m + (z + 1 + 1) by omega, List.append_assoc] at hK2
    exact hK2
theorem jp_xwb51 {K : Nat → Nat → List (Nat × Int32) → (Nat → Int32) → Int32 → Int32 → Int32 → (Nat → Int32) → Prop} {post : SX → Prop} {nq ni qu iv ct pr ra dc : Int32} {pi qa od cl ab co so fc fp sa lv sh hf su : Nat → Int32} {wi : Nat → Int64}
    (hs : jp_HS K nq ni qu iv ct ra dc pi qa od cl ab co so fc fp sa lv sh hf su wi) {b d : Nat} (hb : b < 4) (hod : ∀ k, k < 64 → od k = nI (jp_zg k)) (hlv : ∀ k, k < 64 → jp_ab (lv (64 * b + jp_zg k)) < 2 ^ 13) :
    ∀ (e k r m : Nat) (c : List (Nat × Int32)) (wt : Nat → Int32) (ln bb bc : Int32) (bs : Nat → Int32), k + e = 64 → r < k → m + e + r ≤ 256 → K d m c wt ln bb bc bs →
      (∀ wt ln bb bc bs, K d (m + (jp_tk (fun k => lv (64 * b + jp_zg k)) e k r).length) (c ++ jp_tk (fun k => lv (64 * b + jp_zg k)) e k r) wt ln bb bc bs → post (nq, ni, qu, iv, ln, ct, pr, bb, bc, ra, dc, pi, qa, od, cl, bs, wt, ab, co, so, fc, fp, sa, lv, sh, hf, su, wi)) →
      wX_writeBlock_51 post (nI b) (e + 1) (nI r) (nI k) nq ni qu iv ln ct pr bb bc ra dc pi qa od cl bs wt ab co so fc fp sa lv sh hf su wi := by
  intro e
  induction e with
  | zero =>
    intro k r m c wt ln bb bc bs hk hr hm hK h
    obtain rfl : k = 64 := by omega
    refine br_t (by decide) (pk_le r 0 (fun z => h wt ln bb bc bs ?_) (fun z => ?_))
    · unfold jp_tk
      rw [if_pos (by omega), List.append_nil]
      exact hK
    · have q := hs d m c (0, 0) wt ln bb bc bs pr
      rw [jp_n0] at q
      refine q _ ⟨by decide, by decide⟩ (by omega) hK (fun wt ln bb bc bs hK' => h wt ln bb bc bs ?_)
      unfold jp_tk
      rw [if_neg (by omega)]
      exact hK'
  | succ e ih =>
    intro k r m c wt ln bb bc bs hk hr hm hK h
    have zk := jp_zg_lt k (by omega)
    have e1 : nI b * 64 + nI (jp_zg k) = nI (64 * b + jp_zg k) := by rw [show (64 : Int32) = nI 64 from rfl, pk_mul, nI_add, Nat.mul_comm]
    refine br_f (nI_ge (b := 64) (by omega) (by decide)) ⟨vp_in_nI (by omega) (by decide), ?_⟩
    rw [nI_clamp (by omega), hod k (by omega), e1, nI_clamp (by omega)]
    refine ⟨vp_in_nI (by omega) (by decide), nm_e (br_c (fun z => nm_r (nI_1 r) (nm_r (nI_1 k) ?_)) (fun z => ⟨r / 16 + 1, ?_⟩))⟩
    · refine ih (k + 1) (r + 1) m c wt ln bb bc bs (by omega) (by omega) (by omega) hK (fun wt ln bb bc bs hK' => h wt ln bb bc bs ?_)
      rw [show jp_tk (fun k => lv (64 * b + jp_zg k)) (e + 1) k r = jp_tk (fun k => lv (64 * b + jp_zg k)) e (k + 1) (r + 1) from if_pos z]
      exact hK'
    · refine jp_xwb91 hs (hlv k (by omega)) (r / 16) r 0 m c wt ln bb bc bs rfl (by omega) (by omega) hK (fun wt ln bb bc bs hK' => ?_)
      refine ih (k + 1) 0 (m + (r / 16 + 1)) _ wt ln bb bc bs (by omega) (by omega) (by omega) hK' (fun wt ln bb bc bs hK2 => h wt ln bb bc bs ?_)
      rw [show jp_tk (fun k => lv (64 * b + jp_zg k)) (e + 1) k r = List.replicate (r / 16) (240, 0) ++ (r % 16 * 16 + jp_n (lv (64 * b + jp_zg k)), lv (64 * b + jp_zg k)) :: jp_tk (fun k => lv (64 * b + jp_zg k)) e (k + 1) 0 from if_neg z]
      rw [List.length_append, List.length_replicate, List.length_cons]
      rw [show ∀ x : Nat, m + (r / 16 + (x + 1)) = m + (r / 16 + 1) + x from fun x => by omega]
      rw [List.append_assoc, List.append_assoc] at hK2
      exact hK2
theorem jp_xwriteBlock {K : Nat → Nat → List (Nat × Int32) → (Nat → Int32) → Int32 → Int32 → Int32 → (Nat → Int32) → Prop} {post : SX → Prop} {nq ni qu iv ln ct pr bb bc ra dc : Int32} {pi qa od cl bs wt ab co so fc fp sa lv sh hf su : Nat → Int32} {wi : Nat → Int64}
    (hs : jp_HS K nq ni qu iv ct ra dc pi qa od cl ab co so fc fp sa lv sh hf su wi) {b d m : Nat} {c : List (Nat × Int32)} (hb : b < 4) (hod : ∀ k, k < 64 → od k = nI (jp_zg k)) (hlv : ∀ k, k < 64 → jp_ab (lv (64 * b + jp_zg k)) < 2 ^ 13)
    (hp : jp_ab (lv (64 * b) - pr) < 2 ^ 13) (hm : m + 64 ≤ 256) (hK : K d m c wt ln bb bc bs)
    (h : ∀ wt ln bb bc bs, K d (m + (jp_bt (fun k => lv (64 * b + jp_zg k)) pr).length) (c ++ jp_bt (fun k => lv (64 * b + jp_zg k)) pr) wt ln bb bc bs → post (nq, ni, qu, iv, ln, ct, lv (64 * b), bb, bc, ra, dc, pi, qa, od, cl, bs, wt, ab, co, so, fc, fp, sa, lv, sh, hf, su, wi)) : wpX_writeBlock post (nq, ni, qu, iv, ln, ct, pr, bb, bc, ra, dc, pi, qa, od, cl, bs, wt, ab, co, so, fc, fp, sa, lv, sh, hf, su, wi) (nI b) := by
  have e1 : nI b * 64 = nI (64 * b) := by rw [show (64 : Int32) = nI 64 from rfl, pk_mul, Nat.mul_comm]
  have hi : vp_in (nI (64 * b)) 256 := vp_in_nI (by omega) (by decide)
  have n13 := jp_n_le hp
  have e2 : 256 + nI (jp_n (lv (64 * b) - pr)) = nI (256 + jp_n (lv (64 * b) - pr)) := nI_add 256 _
  unfold wpX_writeBlock
  dsimp only
  rw [e1, nI_clamp (by omega)]
  refine ⟨hi, nm_e ⟨hi, nm_e (jp_xsizeOf (by omega) ?_)⟩⟩
  rw [e2]
  refine hs d m c (256 + jp_n (lv (64 * b) - pr), lv (64 * b) - pr) wt ln bb bc bs (lv (64 * b)) _ ⟨by show 256 + jp_n (lv (64 * b) - pr) < 272; omega, hp⟩ (by omega) hK (fun wt ln bb bc bs hK1 => ⟨64, ?_⟩)
  refine jp_xwb51 hs hb hod hlv 63 1 0 (m + 1) _ wt ln bb bc bs rfl (by omega) (by omega) hK1 (fun wt ln bb bc bs hK2 => h wt ln bb bc bs ?_)
  unfold jp_bt
  rw [List.length_cons, show ∀ x : Nat, m + (x + 1) = m + 1 + x from fun x => by omega]
  rw [List.append_assoc] at hK2
  exact hK2
end
section
/-! all blocks -/
def jp_TS (r : Nat) (L : Nat → Int32) (s : Nat) : List (Nat × Int32) := jp_sg r L (s * r) (min r (4 - s * r))
def jp_HE (K : Nat → Nat → List (Nat × Int32) → (Nat → Int32) → Int32 → Int32 → Int32 → (Nat → Int32) → Prop) (r : Nat) (nq ni qu iv ct ra dc : Int32) (pi qa od cl ab co so fc fp sa lv sh hf su : Nat → Int32) (wi : Nat → Int64) : Prop :=
  ∀ (d m : Nat) (wt : Nat → Int32) (ln bb bc : Int32) (bs : Nat → Int32) (pr : Int32) (post : SX → Prop), d < 4 → m ≤ 256 → K d m (jp_TS r lv d) wt ln bb bc bs →
    (∀ wt ln bb bc bs, K (d + 1) m [] wt ln bb bc bs → post (nq, ni, qu, iv, ln, ct, pr, bb, bc, ra, dc, pi, qa, od, cl, bs, wt, ab, co, so, fc, fp, sa, lv, sh, hf, su, wi)) → wpX_endSegment post (nq, ni, qu, iv, ln, ct, pr, bb, bc, ra, dc, pi, qa, od, cl, bs, wt, ab, co, so, fc, fp, sa, lv, sh, hf, su, wi) (nI d)
theorem jp_bk_p {r : Nat} {L : Nat → Int32} {b s j : Nat} (hb : b = s * r + j) (hj : j < r) : jp_bk r L b = jp_bt (fun k => L (64 * b + jp_zg k)) (if j = 0 then 0 else L (64 * (b - 1))) := by
  unfold jp_bk
  rw [show b % r = j by rw [hb, Nat.mul_comm, Nat.mul_add_mod, Nat.mod_eq_of_lt hj]]
theorem jp_abd {x y : Int32} (hx : jp_ab x ≤ 2048) (hy : jp_ab y ≤ 2048) : jp_ab (x - y) < 2 ^ 13 := by
  unfold jp_ab at *
  rw [Int32.toInt_sub, Int.bmod_eq_of_le (by omega) (by omega)]
  omega
theorem jp_ab0 : jp_ab 0 = 0 := by decide
theorem jp_xwa46 {K : Nat → Nat → List (Nat × Int32) → (Nat → Int32) → Int32 → Int32 → Int32 → (Nat → Int32) → Prop} {post : SX → Prop} {J : Int32 → Int32 → Int32 → Int32 → Int32 → Int32 → Int32 → Int32 → Int32 → Int32 → Int32 → Int32 → Int32 → Int32 → (Nat → Int32) → (Nat → Int32) → (Nat → Int32) → (Nat → Int32) → (Nat → Int32) → (Nat → Int32) → (Nat → Int32) → (Nat → Int32) → (Nat → Int32) → (Nat → Int32) → (Nat → Int32) → (Nat → Int32) → (Nat → Int32) → (Nat → Int32) → (Nat → Int32) → (Nat → Int32) → (Nat → Int64) → Prop} {nq ni qu iv ln ct pr bb bc ra dc : Int32} {pi qa od cl bs wt ab co so fc fp sa lv sh hf su : Nat → Int32} {wi : Nat → Int64}
    (hs : jp_HS K nq ni qu iv ct ra dc pi qa od cl ab co so fc fp sa lv sh hf su wi) {b s j d m r : Nat} {c : List (Nat × Int32)} (hb : b < 4) (hbs : b = s * r + j) (hj : j < r) (hod : ∀ k, k < 64 → od k = nI (jp_zg k)) (hlv : ∀ i, i < 256 → jp_ab (lv i) ≤ 2048)
    (hp : pr = if j = 0 then 0 else lv (64 * (b - 1))) (hm : m + 64 ≤ 256) (hK : K d m c wt ln bb bc bs)
    (h : ∀ m' wt ln bb bc bs, m' ≤ m + 64 → K d m' (c ++ jp_bk r lv b) wt ln bb bc bs → J (nI s) (nI (j + 1)) (nI (b + 1)) nq ni qu iv ln ct (lv (64 * b)) bb bc ra dc pi qa od cl bs wt ab co so fc fp sa lv sh hf su wi) : wX_writeAll_46 post J (nI s) (nI j) (nI b) nq ni qu iv ln ct pr bb bc ra dc pi qa od cl bs wt ab co so fc fp sa lv sh hf su wi := by
  have hpb : jp_ab pr ≤ 2048 := by
    rw [hp]
    split
    · rw [jp_ab0]; omega
    · exact hlv _ (by omega)
  refine jp_xwriteBlock hs hb hod (fun k hk => ?_) (jp_abd (hlv _ (by omega)) hpb) hm hK (fun wt ln bb bc bs hK' => nm_r (nI_1 j) (nm_r (nI_1 b) (h (m + (jp_bt (fun k => lv (64 * b + jp_zg k)) pr).length) wt ln bb bc bs (Nat.add_le_add_left (jp_bt_len _ _) m) ?_)))
  · have := jp_zg_lt k hk
    have := hlv (64 * b + jp_zg k) (by omega)
    omega
  · rw [jp_bk_p hbs hj, ← hp]
    exact hK'
theorem jp_xwa17 {K : Nat → Nat → List (Nat × Int32) → (Nat → Int32) → Int32 → Int32 → Int32 → (Nat → Int32) → Prop} {post : SX → Prop} {nq ni qu iv ct ra dc : Int32} {pi qa od cl ab co so fc fp sa lv sh hf su : Nat → Int32} {wi : Nat → Int64} {r : Nat}
    (hs : jp_HS K nq ni qu iv ct ra dc pi qa od cl ab co so fc fp sa lv sh hf su wi) (he : jp_HE K r nq ni qu iv ct ra dc pi qa od cl ab co so fc fp sa lv sh hf su wi)
    (hiv : iv = nI r) (r1 : 1 ≤ r) (r4 : r ≤ 4) (hod : ∀ k, k < 64 → od k = nI (jp_zg k)) (hlv : ∀ i, i < 256 → jp_ab (lv i) ≤ 2048)
    (h : ∀ m wt ln bb bc bs pr, m ≤ 256 → K (3 / r + 1) m [] wt ln bb bc bs → post (nq, ni, qu, iv, ln, ct, pr, bb, bc, ra, dc, pi, qa, od, cl, bs, wt, ab, co, so, fc, fp, sa, lv, sh, hf, su, wi)) :
    ∀ (e b s j m : Nat) (wt : Nat → Int32) (ln bb bc : Int32) (bs : Nat → Int32) (pr : Int32), b + e = 4 → b = s * r + j → j ≤ r → (0 < b → 0 < j) → pr = (if j = 0 then 0 else lv (64 * (b - 1))) → m ≤ 64 * b → K s m (jp_sg r lv (s * r) j) wt ln bb bc bs →
      wX_writeAll_17 post (e + 1) (nI s) (nI j) (nI b) nq ni qu iv ln ct pr bb bc ra dc pi qa od cl bs wt ab co so fc fp sa lv sh hf su wi := by
  intro e
  induction e with
  | zero =>
    intro b s j m wt ln bb bc bs pr hb hbs hj hj0 hp hm hK
    obtain rfl : b = 4 := by omega
    have j0 := hj0 (by omega)
    have es : s = 3 / r := by
      symm
      rw [Nat.div_eq_iff (by omega)]
      rcases (by omega : r = 1 ∨ r = 2 ∨ r = 3 ∨ r = 4) with q | q | q | q <;> subst q <;> omega
    have s4 : s < 4 := by
      rcases (by omega : r = 1 ∨ r = 2 ∨ r = 3 ∨ r = 4) with q | q | q | q <;> subst q <;> omega
    refine br_t (by decide) (he s m wt ln bb bc bs pr _ s4 (by omega) ?_ (fun wt ln bb bc bs hK' => h m wt ln bb bc bs pr (by omega) ?_))
    · unfold jp_TS
      rw [show min r (4 - s * r) = j by omega]
      exact hK
    · rw [← es]; exact hK'
  | succ e ih =>
    intro b s j m wt ln bb bc bs pr hb hbs hj hj0 hp hm hK
    have s4 : s < 4 := by
      rcases (by omega : r = 1 ∨ r = 2 ∨ r = 3 ∨ r = 4) with q | q | q | q <;> subst q <;> omega
    refine br_f (nI_ge (b := 4) (by omega) (by decide)) ?_
    rw [hiv]
    refine pk_eq j r (fun z => ?_) (fun z => ?_)
    · subst z
      rw [← hiv]
      refine he s m wt ln bb bc bs pr _ s4 (by omega) ?_ (fun wt ln bb bc bs hK' => nm_r (nI_1 s) ?_)
      · unfold jp_TS
        rw [show min j (4 - s * j) = j by omega]
        exact hK
      · have eb : b = (s + 1) * j + 0 := by rw [Nat.succ_mul]; omega
        refine jp_xwa46 hs (j := 0) (by omega) eb (by omega) hod hlv rfl (by omega) hK' (fun m' wt ln bb bc bs hm' hK2 => ?_)
        refine ih (b + 1) (s + 1) 1 m' wt ln bb bc bs _ (by omega) (by omega) r1 (fun _ => by decide) ?_ (by omega) ?_
        · rw [if_neg (by decide), Nat.add_sub_cancel]
        · rw [jp_sg_snoc, jp_sg, ← eb]
          exact hK2
    · rw [← hiv]
      refine jp_xwa46 hs (by omega) hbs (by omega) hod hlv hp (by omega) hK (fun m' wt ln bb bc bs hm' hK2 => ?_)
      refine ih (b + 1) s (j + 1) m' wt ln bb bc bs _ (by omega) (by omega) (by omega) (fun _ => by omega) ?_ (by omega) ?_
      · rw [if_neg (by omega), Nat.add_sub_cancel]
      · rw [jp_sg_snoc, ← hbs]
        exact hK2
theorem jp_xwriteAll {K : Nat → Nat → List (Nat × Int32) → (Nat → Int32) → Int32 → Int32 → Int32 → (Nat → Int32) → Prop} {post : SX → Prop} {nq ni qu iv ln ct pr bb bc ra dc : Int32} {pi qa od cl bs wt ab co so fc fp sa lv sh hf su : Nat → Int32} {wi : Nat → Int64} {r : Nat} {ct1 : Int32} (hc : ct1 = 0 ∨ ct1 = 1)
    (hs : jp_HS K nq ni qu iv ct1 ra dc pi qa od cl ab co so fc fp sa lv sh hf su wi) (he : jp_HE K r nq ni qu iv ct1 ra dc pi qa od cl ab co so fc fp sa lv sh hf su wi)
    (hiv : iv = nI r) (r1 : 1 ≤ r) (r4 : r ≤ 4) (hod : ∀ k, k < 64 → od k = nI (jp_zg k)) (hlv : ∀ i, i < 256 → jp_ab (lv i) ≤ 2048) (hK : K 0 0 [] wt ln bb bc bs)
    (h : ∀ m wt ln bb bc bs pr, m ≤ 256 → K (3 / r + 1) m [] wt ln bb bc bs → post (nq, ni, qu, iv, ln, ct1, pr, bb, bc, ra, dc, pi, qa, od, cl, bs, wt, ab, co, so, fc, fp, sa, lv, sh, hf, su, wi)) : wpX_writeAll post (nq, ni, qu, iv, ln, ct, pr, bb, bc, ra, dc, pi, qa, od, cl, bs, wt, ab, co, so, fc, fp, sa, lv, sh, hf, su, wi) ct1 := by
  refine ⟨?_, ?_, 5, ?_⟩
  · rcases hc with q | q <;> subst q <;> rfl
  · rcases hc with q | q <;> subst q <;> rfl
  · exact jp_xwa17 hs he hiv r1 r4 hod hlv h 4 0 0 0 0 wt ln bb bc bs 0 rfl (by omega) (by omega) (fun z => absurd z (by decide)) rfl (by omega) (by rw [jp_sg]; exact hK)
end
section
/-! counting -/
def jp_Kc (T : Nat → List (Nat × Int32)) (d m : Nat) (c : List (Nat × Int32)) (wt : Nat → Int32) (_ _ _ : Int32) (_ : Nat → Int32) : Prop :=
  ∃ w : Nat → Nat, (∀ k, k < 272 → wt k = nI (w k)) ∧ jp_sN w 272 ≤ m ∧ (∀ s, s < d → ∀ t ∈ T s, 0 < w t.1) ∧ ∀ t ∈ c, 0 < w t.1
theorem jp_Kc_s {T : Nat → List (Nat × Int32)} {nq ni qu iv ct ra dc : Int32} {pi qa od cl ab co so fc fp sa lv sh hf su : Nat → Int32} {wi : Nat → Int64} (hct : ¬ ct = 0) : jp_HS (jp_Kc T) nq ni qu iv ct ra dc pi qa od cl ab co so fc fp sa lv sh hf su wi := by
  intro d m c t wt ln bb bc bs pr post ht hm hK h
  obtain ⟨w, h1, h2, h3, h4⟩ := hK
  refine jp_xsymC hct ht.1 h1 (fun wt' hw => h wt' ln bb bc bs ⟨fun k => if k = t.1 then w k + 1 else w k, hw, ?_, fun s hs q hq => ?_, fun q hq => ?_⟩)
  · have e := jp_sN_pt (f := w) (g := fun k => if k = t.1 then w k + 1 else w k) (k := t.1) (fun i hi => if_neg hi) ht.1
    rw [if_pos rfl] at e
    omega
  · have := h3 s hs q hq
    show 0 < if q.1 = t.1 then w q.1 + 1 else w q.1
    split <;> omega
  · show 0 < if q.1 = t.1 then w q.1 + 1 else w q.1
    rcases List.mem_append.mp hq with z | z
    · have := h4 q z
      split <;> omega
    · rw [List.mem_singleton] at z
      rw [if_pos (by rw [z])]
      omega
theorem jp_Kc_e {nq ni qu iv ct ra dc : Int32} {pi qa od cl ab co so fc fp sa lv sh hf su : Nat → Int32} {wi : Nat → Int64} {r : Nat} (hct : ¬ ct = 0) : jp_HE (jp_Kc (jp_TS r lv)) r nq ni qu iv ct ra dc pi qa od cl ab co so fc fp sa lv sh hf su wi := by
  intro d m wt ln bb bc bs pr post hd hm hK h
  obtain ⟨w, h1, h2, h3, h4⟩ := hK
  refine br_f hct (h wt ln bb bc bs ⟨w, h1, h2, fun s hs t ht => ?_, fun t ht => absurd ht List.not_mem_nil⟩)
  by_cases e : s = d
  · rw [e] at ht; exact h4 t ht
  · exact h3 s (by omega) t ht
/-! writing -/
def jp_Se (C N : Nat → Nat) (bs : Nat → Int32) (s a z : Nat) (l : List (Nat × Int32)) : Prop :=
  ∃ (Bs : List Nat) (e : Nat) (π : List Nat), z = e + 2 ∧ jp_St bs Bs a e ∧ bs e = 255 ∧ bs (e + 1) = nI (208 + s) ∧ π.length < 8 ∧ jp_bo Bs = jp_tb C N l ++ π
theorem jp_Se_cong {C N : Nat → Nat} {bs bs' : Nat → Int32} {s a z : Nat} {l : List (Nat × Int32)} (h : jp_Se C N bs s a z l) (hb : ∀ i, i < z → bs' i = bs i) : jp_Se C N bs' s a z l := by
  obtain ⟨Bs, e, π, rfl, h2, h3, h4, h5, h6⟩ := h
  exact ⟨Bs, e, π, rfl, jp_St_cong h2 fun i _ hi => hb i (by omega), by rw [hb e (by omega)]; exact h3, by rw [hb (e + 1) (by omega)]; exact h4, h5, h6⟩
def jp_Kw (C N : Nat → Nat) (S : Nat → List (Nat × Int32)) (d m : Nat) (c : List (Nat × Int32)) (_ : Nat → Int32) (ln bb bc : Int32) (bs : Nat → Int32) : Prop :=
  ∃ (p : Nat → Nat) (T : Nat), p 0 = 0 ∧ T ≤ 28 * m + 15 * d ∧ d ≤ 4 ∧ (∀ s, s < d → jp_Se C N bs s (p s) (p (s + 1)) (S s) ∧ p (s + 1) ≤ p d) ∧ jp_Wr bs (p d) T ln bb bc bs (jp_tb C N c)
theorem jp_Wr_c {bs0 : Nat → Int32} {p T : Nat} {ln bb bc : Int32} {bs : Nat → Int32} {β : List Nat} (h : jp_Wr bs0 p T ln bb bc bs β) : bc = nI (β.length % 8) := by
  obtain ⟨L, v, c, _, _, rfl, ⟨Bs, _, rfl, hc, _⟩, _, _, _⟩ := h
  rw [List.length_append, jp_bo_len, jp_lb_len]
  exact congrArg nI (by omega)
theorem jp_Kw_s {C N : Nat → Nat} {S : Nat → List (Nat × Int32)} {nq ni qu iv ct ra dc : Int32} {pi qa od cl ab co so fc fp sa lv sh hf su : Nat → Int32} {wi : Nat → Int64} (hct : ct = 0) (hcl : ∀ k, k < 272 → cl k = nI (N k) ∧ N k ≤ 15) (hco : ∀ k, k < 272 → 1 ≤ N k → co k = nI (C k) ∧ C k < 2 ^ 31) :
    jp_HS (jp_Kw C N S) nq ni qu iv ct ra dc pi qa od cl ab co so fc fp sa lv sh hf su wi := by
  intro d m c t wt ln bb bc bs pr post ht hm hK h
  obtain ⟨p, T, h1, h2, h3, h4, h5⟩ := hK
  refine jp_xsymW hct ht (hcl _ ht.1).1 (hco _ ht.1) (hcl _ ht.1).2 (by omega) h5 (fun ln bb bc bs' hW => h wt ln bb bc bs' ?_)
  obtain ⟨L, v, c', w1, w2, w3, w4, w5, w6, w7⟩ := hW
  exact ⟨p, T + 28, h1, by omega, h3, fun s hs => ⟨jp_Se_cong (h4 s hs).1 fun i hi => w7 i (by have := (h4 s hs).2; omega), (h4 s hs).2⟩, L, v, c', w1, w2, w3, w4, w5, w6, fun _ _ => rfl⟩
theorem jp_xes35 {post : SX → Prop} {bs0 : Nat → Int32} {nq ni qu iv ln ct pr bb bc ra dc : Int32} {pi qa od cl bs wt ab co so fc fp sa lv sh hf su : Nat → Int32} {wi : Nat → Int64} {p T s : Nat} {β : List Nat} (hs : s < 4) (hT : T ≤ 7570) (hW : jp_Wr bs0 p T ln bb bc bs β) (h8 : β.length % 8 = 0)
    (h : ∀ L bs' Bs, jp_St bs' Bs p L → β = jp_bo Bs → bs' L = 255 → bs' (L + 1) = nI (208 + s) → (∀ i, i < p → bs' i = bs0 i) → 4 * L ≤ T → p ≤ L → post (nq, ni, qu, iv, nI (L + 2), ct, pr, 0, 0, ra, dc, pi, qa, od, cl, bs', wt, ab, co, so, fc, fp, sa, lv, sh, hf, su, wi)) : wX_endSegment_35 post (nI s) nq ni qu iv ln ct pr bb bc ra dc pi qa od cl bs wt ab co so fc fp sa lv sh hf su wi := by
  have hc := jp_Wr_c hW
  rw [h8] at hc
  obtain ⟨L, v, c, rfl, rfl, e3, ⟨Bs, k1, k2, k3, k4⟩, w5, w6, w7⟩ := hW
  obtain rfl : c = 0 := (nI_eq (by omega) (by decide)).mp (e3.symm.trans hc)
  obtain rfl : v = 0 := by
    have : v < 1 := k4
    omega
  rw [e3]
  refine And.intro (vp_in_nI (by omega) (by decide)) (nm_e (nm_r (nI_1 L) ?_))
  rw [nI_clamp (by omega)]
  refine And.intro (vp_in_nI (by omega) (by decide)) (nm_e (nm_r (nI_1 (L + 1)) ?_))
  rw [nI_clamp (by omega), show 208 + nI s = nI (208 + s) from nI_add 208 s]
  refine h L _ Bs (jp_St_cong k1 fun i _ hi => ?_) (k2.trans (List.append_nil _)) ?_ pk_us (fun i hi => ?_) (by omega) w6
  · rw [pk_un (by omega), pk_un (by omega)]
  · rw [pk_un (by omega), pk_us]
  · rw [pk_un (by omega), pk_un (by omega)]; exact w7 i hi
theorem jp_xes10 {post : SX → Prop} {bs0 : Nat → Int32} {nq ni qu iv ct pr ra dc : Int32} {pi qa od cl wt ab co so fc fp sa lv sh hf su : Nat → Int32} {wi : Nat → Int64} {p s : Nat} {β : List Nat} (hs : s < 4) (T0 : Nat) (hT0 : T0 + 7 ≤ 7570)
    (h : ∀ L bs Bs π, jp_St bs Bs p L → β ++ π = jp_bo Bs → π.length < 8 → bs L = 255 → bs (L + 1) = nI (208 + s) → (∀ i, i < p → bs i = bs0 i) → 4 * L ≤ T0 + 7 → p ≤ L → post (nq, ni, qu, iv, nI (L + 2), ct, pr, 0, 0, ra, dc, pi, qa, od, cl, bs, wt, ab, co, so, fc, fp, sa, lv, sh, hf, su, wi)) :
    ∀ (d i : Nat) (ln bb bc : Int32) (bs : Nat → Int32) (π : List Nat), i + d ≤ 7 → π.length + d ≤ 7 → jp_Wr bs0 p (T0 + π.length) ln bb bc bs (β ++ π) → ((β ++ π).length % 8 = 0 ∨ 8 ≤ (β ++ π).length % 8 + d) →
      wX_endSegment_10 post (nI s) (d + 1) (nI i) nq ni qu iv ln ct pr bb bc ra dc pi qa od cl bs wt ab co so fc fp sa lv sh hf su wi := by
  intro d
  induction d with
  | zero =>
    intro i ln bb bc bs π hi hp hW h8
    have h8 : (β ++ π).length % 8 = 0 := by omega
    have hc := jp_Wr_c hW
    refine br_f (nI_ge (b := 8) (by omega) (by decide)) (br_t (by rw [hc, h8]; rfl) ?_)
    exact jp_xes35 hs (by omega) hW h8 (fun L bs' Bs a1 a2 a3 a4 a5 a6 a7 => h L bs' Bs π a1 a2 (by omega) a3 a4 a5 (by omega) a7)
  | succ d ih =>
    intro i ln bb bc bs π hi hp hW h8
    have hc := jp_Wr_c hW
    refine br_f (nI_ge (b := 8) (by omega) (by decide)) ?_
    by_cases z : (β ++ π).length % 8 = 0
    · refine br_t (by rw [hc, z]; rfl) ?_
      exact jp_xes35 hs (by omega) hW z (fun L bs' Bs a1 a2 a3 a4 a5 a6 a7 => h L bs' Bs π a1 a2 (by omega) a3 a4 a5 (by omega) a7)
    · refine br_f (by rw [hc]; exact nI_ne0 (by omega) (by omega)) ?_
      refine jp_xputBits (x := 1) (n := 1) (by decide) (by decide) (by omega) hW (fun ln bb bc bs hW' => nm_r (nI_1 i) (ih (i + 1) ln bb bc bs (π ++ [1]) (by omega) ?_ ?_ ?_))
      · rw [List.length_append]; show π.length + 1 + d ≤ 7; omega
      · rw [List.length_append, ← List.append_assoc]
        exact hW'
      · rw [← List.append_assoc, List.length_append]
        show ((β ++ π).length + 1) % 8 = 0 ∨ 8 ≤ ((β ++ π).length + 1) % 8 + d
        omega
theorem jp_Kw_e {C N : Nat → Nat} {nq ni qu iv ct ra dc : Int32} {pi qa od cl ab co so fc fp sa lv sh hf su : Nat → Int32} {wi : Nat → Int64} {r : Nat} (hct : ct = 0) : jp_HE (jp_Kw C N (jp_TS r lv)) r nq ni qu iv ct ra dc pi qa od cl ab co so fc fp sa lv sh hf su wi := by
  intro d m wt ln bb bc bs pr post hd hm hK h
  obtain ⟨p, T, h1, h2, h3, h4, h5⟩ := hK
  refine br_t hct ⟨8, jp_xes10 (β := jp_tb C N (jp_TS r lv d)) hd T (by omega) (fun L bs' Bs π a1 a2 a3 a4 a5 a6 a7 a8 => h wt _ _ _ bs' ?_) 7 0 ln bb bc bs [] (by omega) (by decide) (by rw [List.append_nil]; exact h5) (by omega)⟩
  refine ⟨jp_pn p (d + 1) (L + 2), T + 15, ?_, by omega, by omega, fun s hs => ?_, ?_⟩
  · rw [jp_pn_n (by omega)]; exact h1
  · by_cases e : s = d
    · subst e
      rw [jp_pn_n (by omega), jp_pn_y rfl]
      exact ⟨⟨Bs, L, π, rfl, a1, a4, a5, a3, a2.symm⟩, Nat.le_refl _⟩
    · have q := h4 s (by omega)
      rw [jp_pn_n (by omega), jp_pn_n (by omega), jp_pn_y rfl]
      exact ⟨jp_Se_cong q.1 fun i hi => a6 i (by omega), by omega⟩
  · rw [jp_pn_y rfl]
    exact ⟨L + 2, 0, 0, rfl, rfl, rfl, jp_WR_0, by omega, Nat.le_refl _, fun _ _ => rfl⟩
end
section
/-! reading digits -/
theorem jp_xgb71 {post : Int32 → SX → Prop} {nq ni qu iv ln ct pr bb bc ra dc : Int32} {pi qa od cl bs wt ab co so fc fp sa lv sh hf su : Nat → Int32} {wi : Nat → Int64} {v c : Nat} (hv : v < 256) (hc : c < 8) (hbb : bb = nI v) (hbc : bc = nI (c + 1)) (h : post (nI (v / 2 ^ c % 2)) (nq, ni, qu, iv, ln, ct, pr, bb, nI c, ra, dc, pi, qa, od, cl, bs, wt, ab, co, so, fc, fp, sa, lv, sh, hf, su, wi)) : wX_getBit_71 post nq ni qu iv ln ct pr bb bc ra dc pi qa od cl bs wt ab co so fc fp sa lv sh hf su wi := by
  have e : ((bb >>> (nI c &&& 31)) &&& 1) = nI (v / 2 ^ c % 2) := by
    have : v / 2 ^ c ≤ v := Nat.div_le_self _ _
    rw [hbb, pk_shrN (by omega) _ c (jp_sc c (by omega)), pk_andN (by omega) 1 (by decide)]
  refine nm_r (e' := nI c) (by rw [hbc, nI_pred]) ?_
  rw [e]
  exact h
theorem jp_xgetBit {post : Int32 → SX → Prop} {nq ni qu iv ln ct pr bb bc ra dc : Int32} {pi qa od cl bs wt ab co so fc fp sa lv sh hf su : Nat → Int32} {wi : Nat → Int64} {e L b : Nat} {ρ : List Nat} (hln : ln = nI L) (he : e ≤ L) (hL : L ≤ 1900) (hR : jp_RD bs e ra bb bc (b :: ρ))
    (h : ∀ ra' bb' bc', jp_RD bs e ra' bb' bc' ρ → post (nI b) (nq, ni, qu, iv, ln, ct, pr, bb', bc', ra', dc, pi, qa, od, cl, bs, wt, ab, co, so, fc, fp, sa, lv, sh, hf, su, wi)) : wpX_getBit post (nq, ni, qu, iv, ln, ct, pr, bb, bc, ra, dc, pi, qa, od, cl, bs, wt, ab, co, so, fc, fp, sa, lv, sh, hf, su, wi) := by
  obtain ⟨r, c, v, Bs, rfl, rfl, hv, hv2, hc, hs, hp⟩ := hR
  cases c with
  | zero =>
    cases Bs with
    | nil => exact absurd hp (by simp [jp_lb, jp_bo])
    | cons B t =>
      have hl := jp_St_le hs
      rw [List.length_cons] at hl
      rw [jp_bo_cons] at hp
      have hp : b :: ρ = (B / 2 ^ 7 % 2) :: (jp_lb B 7 ++ jp_bo t) := hp
      obtain ⟨rfl, rfl⟩ := List.cons.inj hp
      obtain ⟨s1, s2, s3, s4⟩ := hs
      refine br_t rfl ?_
      rw [hln]
      refine br_f (nI_ge (by omega) (by omega)) ⟨vp_in_nI (by omega) (by decide), ?_⟩
      rw [nI_clamp (by omega), s2]
      refine nm_r (nI_1 r) (pk_eq B 255 (fun z => nm_r (nI_1 (r + 1)) ?_) (fun z => ?_))
      · refine jp_xgb71 (c := 7) s1 (by decide) rfl rfl ?_
        rw [← hln]
        exact h _ _ _ ⟨r + 2, 7, B, t, rfl, rfl, fun _ => rfl, s1, by decide, (s3 z).2, rfl⟩
      · refine jp_xgb71 (c := 7) s1 (by decide) rfl rfl ?_
        rw [← hln]
        exact h _ _ _ ⟨r + 1, 7, B, t, rfl, rfl, fun _ => rfl, s1, by decide, s4 z, rfl⟩
  | succ c =>
    have hp : b :: ρ = (v / 2 ^ c % 2) :: (jp_lb v c ++ jp_bo Bs) := hp
    obtain ⟨rfl, rfl⟩ := List.cons.inj hp
    refine br_f (nI_ne0 (by omega) (by omega)) (jp_xgb71 hv2 (by omega) (hv (by omega)) rfl (h _ _ _ ⟨r, c, v, Bs, rfl, rfl, fun _ => hv (by omega), hv2, by omega, hs, rfl⟩))
theorem jp_xgbs4 {post : Int32 → SX → Prop} {nq ni qu iv ln ct pr dc : Int32} {pi qa od cl bs wt ab co so fc fp sa lv sh hf su : Nat → Int32} {wi : Nat → Int64} {e L v n0 : Nat} {ρ : List Nat} (hln : ln = nI L) (he : e ≤ L) (hL : L ≤ 1900) (hn0 : n0 ≤ 15)
    (h : ∀ ra bb bc, jp_RD bs e ra bb bc ρ → post (nI v) (nq, ni, qu, iv, ln, ct, pr, bb, bc, ra, dc, pi, qa, od, cl, bs, wt, ab, co, so, fc, fp, sa, lv, sh, hf, su, wi)) :
    ∀ (d i : Nat) (ra bb bc : Int32), i + d = n0 → jp_RD bs e ra bb bc (jp_lb v d ++ ρ) → wX_getBits_4 post (nI n0) (d + 1) (nI (v / 2 ^ d)) (nI i) nq ni qu iv ln ct pr bb bc ra dc pi qa od cl bs wt ab co so fc fp sa lv sh hf su wi := by
  intro d
  induction d with
  | zero =>
    intro i ra bb bc hi hR
    obtain rfl : i = n0 := by omega
    refine br_t (nI_le (Nat.le_refl _) (by omega)) ?_
    rw [Nat.pow_zero, Nat.div_one]
    exact h ra bb bc hR
  | succ d ih =>
    intro i ra bb bc hi hR
    refine br_f (nI_ge (by omega) (by omega)) (jp_xgetBit hln he hL hR (fun ra bb bc hR' => nm_r (e' := nI (v / 2 ^ d)) ?_ (nm_r (nI_1 i) (ih (i + 1) ra bb bc (by omega) hR'))))
    rw [show (2 : Int32) = nI 2 from rfl, pk_mul, nI_add, jp_dig]
theorem jp_xgetBits {post : Int32 → SX → Prop} {nq ni qu iv ln ct pr bb bc ra dc : Int32} {pi qa od cl bs wt ab co so fc fp sa lv sh hf su : Nat → Int32} {wi : Nat → Int64} {e L v n : Nat} {ρ : List Nat} (hln : ln = nI L) (he : e ≤ L) (hL : L ≤ 1900) (hn : n ≤ 15) (hv : v < 2 ^ n) (hR : jp_RD bs e ra bb bc (jp_lb v n ++ ρ))
    (h : ∀ ra' bb' bc', jp_RD bs e ra' bb' bc' ρ → post (nI v) (nq, ni, qu, iv, ln, ct, pr, bb', bc', ra', dc, pi, qa, od, cl, bs, wt, ab, co, so, fc, fp, sa, lv, sh, hf, su, wi)) : wpX_getBits post (nq, ni, qu, iv, ln, ct, pr, bb, bc, ra, dc, pi, qa, od, cl, bs, wt, ab, co, so, fc, fp, sa, lv, sh, hf, su, wi) (nI n) := by
  have k := jp_xgbs4 hln he hL hn h n 0 ra bb bc (by omega) hR
  rw [Nat.div_eq_of_lt hv] at k
  exact ⟨n + 1, k⟩
theorem jp_xgetValue {post : Int32 → SX → Prop} {nq ni qu iv ln ct pr bb bc ra dc : Int32} {pi qa od cl bs wt ab co so fc fp sa lv sh hf su : Nat → Int32} {wi : Nat → Int64} {e L : Nat} {v : Int32} {ρ : List Nat} (hln : ln = nI L) (he : e ≤ L) (hL : L ≤ 1900) (hn : jp_n v ≤ 14) (hR : jp_RD bs e ra bb bc (jp_lb (jp_vv v) (jp_n v) ++ ρ))
    (h : ∀ ra' bb' bc', jp_RD bs e ra' bb' bc' ρ → post v (nq, ni, qu, iv, ln, ct, pr, bb', bc', ra', dc, pi, qa, od, cl, bs, wt, ab, co, so, fc, fp, sa, lv, sh, hf, su, wi)) : wpX_getValue post (nq, ni, qu, iv, ln, ct, pr, bb, bc, ra, dc, pi, qa, od, cl, bs, wt, ab, co, so, fc, fp, sa, lv, sh, hf, su, wi) (nI (jp_n v)) := by
  by_cases z : v = 0
  · subst z
    rw [jp_n0] at hR ⊢
    exact br_t rfl (h ra bb bc hR)
  · have n0 := jp_n_pos z
    have vl := jp_vv_lt (v := v)
    have p14 : 2 ^ jp_n v ≤ 2 ^ 14 := Nat.pow_le_pow_right (by decide) hn
    refine br_f (nI_ne0 n0 (by omega)) (jp_xgetBits hln he hL (by omega) vl hR (fun ra bb bc hR' => ?_))
    have k := h ra bb bc hR'
    obtain ⟨k1, k2⟩ := jp_vv_hi n0
    have e1 : nI (jp_vv v) >>> ((nI (jp_n v) - 1) &&& 31) = nI (jp_vv v / 2 ^ (jp_n v - 1)) := by
      rw [show nI (jp_n v) - 1 = nI (jp_n v - 1) from pk_sub (b := 1) (by omega)]
      exact pk_shrN (by omega) _ _ (jp_sc _ (by omega))
    have e2 : (1 : Int32) <<< (nI (jp_n v) &&& 31) = nI (2 ^ jp_n v) := by
      have := pk_shlN (n := 1) (nI (jp_n v) &&& 31) (jp_n v) (jp_sc _ (by omega)) (by omega)
      rw [Nat.one_mul] at this
      exact this
    rw [e1]
    by_cases q : 0 < v.toInt
    · obtain ⟨a, b⟩ := k1 q
      rw [a]
      refine br_t rfl ?_
      have : nI (jp_vv v) = v := by
        apply Int32.toInt_inj.mp
        rw [nI_toInt (by omega)]; exact b
      rw [this]
      exact k
    · obtain ⟨a, b⟩ := k2 q
      rw [a]
      refine br_f (by decide) ?_
      have hp := jp_pw (jp_n v)
      have : (nI (jp_vv v) - nI (2 ^ jp_n v)) + 1 = v := by
        apply Int32.toInt_inj.mp
        rw [Int32.toInt_add, pk_sub_toInt (by omega) (by omega), show (1 : Int32).toInt = 1 from by decide, Int.bmod_eq_of_le (by omega) (by omega)]
        omega
      rw [e2, this]
      exact k
theorem jp_xgs4 {post : Int32 → SX → Prop} {nq ni qu iv ln ct pr dc : Int32} {pi qa od cl bs wt ab co so fc fp sa lv sh hf su : Nat → Int32} {wi : Nat → Int64} {e L t s n c : Nat} {ρ : List Nat} (hln : ln = nI L) (he : e ≤ L) (hL : L ≤ 1900) (ht : t ≤ 1) (hC : jp_Cw so fc fp sa t s n c)
    (h : ∀ ra bb bc, jp_RD bs e ra bb bc ρ → post (nI s) (nq, ni, qu, iv, ln, ct, pr, bb, bc, ra, dc, pi, qa, od, cl, bs, wt, ab, co, so, fc, fp, sa, lv, sh, hf, su, wi)) :
    ∀ (d m : Nat) (ra bb bc : Int32), m + d = n → 1 ≤ m → jp_RD bs e ra bb bc (jp_lb c (d + 1) ++ ρ) → wX_getSymbol_4 post (nI t) (d + 1) (nI (c / 2 ^ (d + 1))) (nI m) nq ni qu iv ln ct pr bb bc ra dc pi qa od cl bs wt ab co so fc fp sa lv sh hf su wi := by
  obtain ⟨n1, n16, cn, F, P, Q, hT, c1, c2, c3, c4, c5⟩ := hC
  have p16 : 2 ^ n ≤ 2 ^ 16 := Nat.pow_le_pow_right (by decide) n16
  intro d
  induction d with
  | zero =>
    intro m ra bb bc hm hm1 hR
    obtain rfl : m = n := by omega
    obtain ⟨t1, t2, t3, t4, t5, t6⟩ := hT m hm1 n16
    have ei : nI t * 17 + nI m = nI (t * 17 + m) := by rw [show (17 : Int32) = nI 17 from rfl, pk_mul, nI_add]
    have hi : vp_in (nI (t * 17 + m)) 34 := vp_in_nI (by omega) (by decide)
    have e1 : nI (c / 2 ^ (0 + 1)) * 2 + nI (c / 2 ^ 0 % 2) = nI c := by
      rw [show (2 : Int32) = nI 2 from rfl, pk_mul, nI_add, jp_dig, Nat.pow_zero, Nat.div_one]
    refine br_f (nI_nlt (a := 16) (by omega) (by decide)) (jp_xgetBit hln he hL hR (fun ra bb bc hR' => nm_r e1 ?_))
    rw [ei, nI_clamp (by omega), t1, t2, t3]
    refine ⟨hi, nm_r (pk_sub c1) (br_f (nI_pos (by omega)) ⟨hi, br_f (nI_ge (by omega) (by omega)) ⟨hi, ?_⟩⟩)⟩
    rw [nI_add, nI_clamp (by omega), c4]
    exact ⟨vp_in_nI (by omega) (by decide), h ra bb bc hR'⟩
  | succ d ih =>
    intro m ra bb bc hm hm1 hR
    obtain ⟨t1, t2, t3, t4, t5, t6⟩ := hT m hm1 (by omega)
    have ei : nI t * 17 + nI m = nI (t * 17 + m) := by rw [show (17 : Int32) = nI 17 from rfl, pk_mul, nI_add]
    have hi : vp_in (nI (t * 17 + m)) 34 := vp_in_nI (by omega) (by decide)
    have e1 : nI (c / 2 ^ (d + 1 + 1)) * 2 + nI (c / 2 ^ (d + 1) % 2) = nI (c / 2 ^ (d + 1)) := by
      rw [show (2 : Int32) = nI 2 from rfl, pk_mul, nI_add, jp_dig]
    have k := c5 m hm1 (by omega)
    rw [show n - m = d + 1 by omega] at k
    have kb : c / 2 ^ (d + 1) ≤ c := Nat.div_le_self _ _
    refine br_f (nI_nlt (a := 16) (by omega) (by decide)) (jp_xgetBit hln he hL hR (fun ra bb bc hR' => nm_r e1 ?_))
    rw [ei, nI_clamp (by omega), t1, t3]
    refine ⟨hi, nm_r (pk_sub (by omega)) (br_f (nI_pos (by omega)) ⟨hi, br_t (nI_le (by omega) (by omega)) (nm_r (nI_1 m) (ih (m + 1) ra bb bc (by omega) (by omega) hR'))⟩)⟩
theorem jp_xgetSymbol {post : Int32 → SX → Prop} {nq ni qu iv ln ct pr bb bc ra dc : Int32} {pi qa od cl bs wt ab co so fc fp sa lv sh hf su : Nat → Int32} {wi : Nat → Int64} {e L t s n c : Nat} {ρ : List Nat} (hln : ln = nI L) (he : e ≤ L) (hL : L ≤ 1900) (ht : t ≤ 1) (hC : jp_Cw so fc fp sa t s n c) (hR : jp_RD bs e ra bb bc (jp_lb c n ++ ρ))
    (h : ∀ ra' bb' bc', jp_RD bs e ra' bb' bc' ρ → post (nI s) (nq, ni, qu, iv, ln, ct, pr, bb', bc', ra', dc, pi, qa, od, cl, bs, wt, ab, co, so, fc, fp, sa, lv, sh, hf, su, wi)) : wpX_getSymbol post (nq, ni, qu, iv, ln, ct, pr, bb, bc, ra, dc, pi, qa, od, cl, bs, wt, ab, co, so, fc, fp, sa, lv, sh, hf, su, wi) (nI t) := by
  obtain ⟨m, rfl⟩ : ∃ m, n = m + 1 := ⟨n - 1, by have := hC.1; omega⟩
  have k := jp_xgs4 hln he hL ht hC h m 1 ra bb bc (by omega) (by omega) hR
  rw [Nat.div_eq_of_lt hC.2.2.1] at k
  exact ⟨m + 1, k⟩
end
section
/-! a block is read -/
def jp_Ok (so fc fp sa : Nat → Int32) (C N : Nat → Nat) (t : Nat × Int32) : Prop := jp_Cw so fc fp sa (if t.1 < 256 then 0 else 1) t.1 (N t.1) (C t.1) ∧ jp_ab t.2 < 2 ^ 13
def jp_Rv (b k : Nat) (f : Nat → Int32) (lv lv0 : Nat → Int32) : Prop :=
  (∀ m, m < k → lv (64 * b + jp_zg m) = f m) ∧ (∀ m, k ≤ m → m < 64 → lv (64 * b + jp_zg m) = 0) ∧ ∀ i, i < 256 → i / 64 ≠ b → lv i = lv0 i
theorem jp_Rv_put {b k : Nat} {f lv lv0 : Nat → Int32} (hk : k < 64) (h : jp_Rv b k f lv lv0) : jp_Rv b (k + 1) f (upd lv (64 * b + jp_zg k) (f k)) lv0 := by
  have zk := jp_zg_lt k hk
  refine ⟨fun m hm => ?_, fun m hm hm2 => ?_, fun i hi hb => ?_⟩
  · by_cases e : m = k
    · rw [e, pk_us]
    · rw [pk_un (fun q => e (jp_zg_inj (by omega) hk (by omega)))]
      exact h.1 m (by omega)
  · rw [pk_un (fun q => absurd (jp_zg_inj hm2 hk (by omega)) (by omega))]
    exact h.2.1 m (by omega) hm2
  · rw [pk_un (by omega)]
    exact h.2.2 i hi hb
theorem jp_Rv_zero {b k j : Nat} {f lv lv0 : Nat → Int32} (hj : j < 64) (h0 : j < k → f j = 0) (h : jp_Rv b k f lv lv0) : jp_Rv b k f (upd lv (64 * b + jp_zg j) 0) lv0 := by
  have zk := jp_zg_lt j hj
  refine ⟨fun m hm => ?_, fun m hm hm2 => ?_, fun i hi hb => ?_⟩
  · by_cases e : 64 * b + jp_zg m = 64 * b + jp_zg j
    · by_cases e2 : m = j
      · rw [e2, pk_us, h0 (by omega)]
      · have hh := h.1 m hm
        rw [e, pk_us]
        by_cases jk : j < k
        · rw [e, h.1 j jk, h0 jk] at hh; exact hh
        · rw [e, h.2.1 j (by omega) hj] at hh; exact hh
    · rw [pk_un e]; exact h.1 m hm
  · by_cases e : 64 * b + jp_zg m = 64 * b + jp_zg j
    · rw [e, pk_us]
    · rw [pk_un e]; exact h.2.1 m hm hm2
  · rw [pk_un (by omega)]
    exact h.2.2 i hi hb
theorem jp_Rv_skip {b k : Nat} {f lv lv0 : Nat → Int32} (hk : k < 64) (h0 : f k = 0) (h : jp_Rv b k f lv lv0) : jp_Rv b (k + 1) f lv lv0 := by
  refine ⟨fun m hm => ?_, fun m hm hm2 => h.2.1 m (by omega) hm2, h.2.2⟩
  by_cases e : m = k
  · rw [e, h0]; exact h.2.1 k (Nat.le_refl _) hk
  · exact h.1 m (by omega)
theorem jp_xrbt {post : SX → Prop} {nq ni qu iv ln ct pr bb bc ra dc : Int32} {pi qa od cl bs wt ab co so fc fp sa lv sh hf su : Nat → Int32} {wi : Nat → Int64} {C N : Nat → Nat} {e L b a i q s n : Nat} {v : Int32} {ρ : List Nat} (hln : ln = nI L) (he : e ≤ L) (hL : L ≤ 1900) (hb : b < 4) (hod : ∀ k, k < 64 → od k = nI (jp_zg k))
    (hO : jp_Ok so fc fp sa C N (s, v)) (hs : s = q * 16 + jp_n v) (hs2 : s < 256) (hs0 : s ≠ 0) (haq : a + q < 64) (hi : i < 64) (hR : jp_RD bs e ra bb bc (jp_t1 C N (s, v) ++ ρ))
    (h : ∀ ra' bb' bc', jp_RD bs e ra' bb' bc' ρ → wX_readBlock_48 post (nI b) n (nI (a + q + 1)) (nI (i + 1)) nq ni qu iv ln ct pr bb' bc' ra' dc pi qa od cl bs wt ab co so fc fp sa (upd lv (64 * b + jp_zg (a + q)) v) sh hf su wi) : wX_readBlock_48 post (nI b) (n + 1) (nI a) (nI i) nq ni qu iv ln ct pr bb bc ra dc pi qa od cl bs wt ab co so fc fp sa lv sh hf su wi := by
  obtain ⟨hC, hv⟩ := hO
  have n13 : jp_n v ≤ 13 := jp_n_le hv
  have zk := jp_zg_lt (a + q) haq
  rw [if_pos hs2] at hC
  unfold jp_t1 at hR
  rw [List.append_assoc] at hR
  have e1 : nI s >>> ((4 : Int32) &&& 31) = nI q := by
    rw [pk_shrN (by omega) _ 4 (by decide)]
    exact congrArg nI (by omega)
  have e2 : nI s &&& 15 = nI (jp_n v) := by
    rw [pk_andN (by omega) 4 (by decide)]
    exact congrArg nI (by omega)
  have e3 : nI b * 64 + nI (jp_zg (a + q)) = nI (64 * b + jp_zg (a + q)) := by rw [show (64 : Int32) = nI 64 from rfl, pk_mul, nI_add, Nat.mul_comm]
  refine br_f (nI_ge (b := 64) (by omega) (by decide)) (br_f (nI_ge (b := 64) (by omega) (by decide)) (jp_xgetSymbol (t := 0) hln he hL (by decide) hC hR (fun ra1 bb1 bc1 hR1 => br_f (nI_ne0 (by omega) (by omega)) ?_)))
  refine nm_r (e' := nI (a + q)) (by rw [e1, nI_add]) ?_
  rw [e2]
  refine jp_xgetValue hln he hL (by omega) hR1 (fun ra2 bb2 bc2 hR2 => br_f (nI_ge (b := 64) (by omega) (by decide)) ?_)
  rw [nI_clamp (by omega), hod _ haq, e3, nI_clamp (by omega)]
  exact ⟨vp_in_nI haq (by decide), vp_in_nI (by omega) (by decide), nm_e (nm_r (nI_1 _) (nm_r (nI_1 i) (h ra2 bb2 bc2 hR2)))⟩
theorem jp_xrbz {post : SX → Prop} {nq ni qu iv ln ct pr dc : Int32} {pi qa od cl bs wt ab co so fc fp sa sh hf su : Nat → Int32} {wi : Nat → Int64} {lv0 f : Nat → Int32} {C N : Nat → Nat} {e L b k n : Nat} {ρ : List Nat} (hln : ln = nI L) (he : e ≤ L) (hL : L ≤ 1900) (hb : b < 4) (hod : ∀ k, k < 64 → od k = nI (jp_zg k)) (hk : k < 64)
    (hf0 : ∀ r, r < k → (∀ j, k - r ≤ j → j < k → f j = 0) → True) :
    ∀ (z r i : Nat) (lv : Nat → Int32) (ra bb bc : Int32), 16 * z ≤ r → r < k → (∀ j, k - r ≤ j → j < k → f j = 0) → (0 < z → jp_Ok so fc fp sa C N (240, 0)) → i + z ≤ 63 → jp_Rv b k f lv lv0 → jp_RD bs e ra bb bc (jp_tb C N (List.replicate z (240, 0)) ++ ρ) →
      (∀ lv ra bb bc, jp_Rv b k f lv lv0 → jp_RD bs e ra bb bc ρ → wX_readBlock_48 post (nI b) n (nI (k - (r - 16 * z))) (nI (i + z)) nq ni qu iv ln ct pr bb bc ra dc pi qa od cl bs wt ab co so fc fp sa lv sh hf su wi) → wX_readBlock_48 post (nI b) (n + z) (nI (k - r)) (nI i) nq ni qu iv ln ct pr bb bc ra dc pi qa od cl bs wt ab co so fc fp sa lv sh hf su wi := by
  intro z
  induction z with
  | zero =>
    intro r i lv ra bb bc h1 h2 h3 h4 h5 h6 h7 h
    exact h lv ra bb bc h6 h7
  | succ z ih =>
    intro r i lv ra bb bc h1 h2 h3 h4 h5 h6 h7 h
    rw [List.replicate_succ, jp_tb_cons, List.append_assoc] at h7
    refine jp_xrbt (q := 15) (n := n + z) hln he hL hb hod (h4 (by omega)) (by rw [jp_n0]) (by decide) (by decide) (by omega) (by omega) h7 (fun ra bb bc hR => ?_)
    rw [show k - r + 15 + 1 = k - (r - 16) by omega]
    refine ih (r - 16) (i + 1) _ ra bb bc (by omega) (by omega) (fun j hj hj2 => h3 j (by omega) hj2) (fun _ => h4 (by omega)) (by omega) (jp_Rv_zero (by omega) (fun _ => h3 _ (by omega) (by omega)) h6) hR (fun lv ra bb bc a1 a2 => ?_)
    have := h lv ra bb bc a1 a2
    rw [show k - (r - 16 * (z + 1)) = k - (r - 16 - 16 * z) by omega, show i + (z + 1) = i + 1 + z by omega] at this
    exact this
theorem jp_xrb48 {post : SX → Prop} {nq ni qu iv ln ct pr dc : Int32} {pi qa od cl bs wt ab co so fc fp sa sh hf su : Nat → Int32} {wi : Nat → Int64} {lv0 f : Nat → Int32} {C N : Nat → Nat} {e L b : Nat} {σ : List Nat} (hln : ln = nI L) (he : e ≤ L) (hL : L ≤ 1900) (hb : b < 4) (hod : ∀ k, k < 64 → od k = nI (jp_zg k)) (gf : ∀ k, k < 64 → jp_ab (f k) < 2 ^ 13)
    (h : ∀ lv ra bb bc, jp_Rv b 64 f lv lv0 → jp_RD bs e ra bb bc σ → post (nq, ni, qu, iv, ln, ct, pr, bb, bc, ra, dc, pi, qa, od, cl, bs, wt, ab, co, so, fc, fp, sa, lv, sh, hf, su, wi)) :
    ∀ (d k r i n : Nat) (lv : Nat → Int32) (ra bb bc : Int32), k + d = 64 → r < k → i + 1 ≤ k - r → n + i = 65 → (∀ j, k - r ≤ j → j < k → f j = 0) → (∀ t ∈ jp_tk f d k r, jp_Ok so fc fp sa C N t) → jp_Rv b k f lv lv0 → jp_RD bs e ra bb bc (jp_tb C N (jp_tk f d k r) ++ σ) →
      wX_readBlock_48 post (nI b) n (nI (k - r)) (nI i) nq ni qu iv ln ct pr bb bc ra dc pi qa od cl bs wt ab co so fc fp sa lv sh hf su wi := by
  intro d
  induction d with
  | zero =>
    intro k r i n lv ra bb bc h1 h2 h3 h4 h5 h6 h7 h8
    obtain rfl : k = 64 := by omega
    obtain ⟨n, rfl⟩ : ∃ m, n = m + 1 := ⟨n - 1, by omega⟩
    refine br_f (nI_ge (b := 64) (by omega) (by decide)) ?_
    unfold jp_tk at h6 h8
    by_cases z : r = 0
    · rw [if_pos z, jp_tb_nil, List.nil_append] at h8
      rw [z]
      exact br_t (by decide) (h lv ra bb bc h7 h8)
    · rw [if_neg z] at h6 h8
      have o := (h6 (0, 0) (List.mem_singleton.mpr rfl)).1
      rw [jp_tb_cons, jp_tb_nil, List.append_nil] at h8
      unfold jp_t1 at h8
      rw [jp_n0, jp_lb, List.append_nil] at h8
      exact br_f (nI_ge (b := 64) (by omega) (by decide)) (jp_xgetSymbol (t := 0) hln he hL (by decide) o h8 (fun ra bb bc hR => br_t rfl (h lv ra bb bc h7 hR)))
  | succ d ih =>
    intro k r i n lv ra bb bc h1 h2 h3 h4 h5 h6 h7 h8
    by_cases z : f k = 0
    · rw [show jp_tk f (d + 1) k r = jp_tk f d (k + 1) (r + 1) from if_pos z] at h6 h8
      rw [show k - r = k + 1 - (r + 1) by omega]
      refine ih (k + 1) (r + 1) i n lv ra bb bc (by omega) (by omega) (by omega) h4 (fun j hj hj2 => ?_) h6 (jp_Rv_skip (by omega) z h7) h8
      by_cases e : j = k
      · rw [e]; exact z
      · exact h5 j (by omega) (by omega)
    · rw [show jp_tk f (d + 1) k r = List.replicate (r / 16) (240, 0) ++ (r % 16 * 16 + jp_n (f k), f k) :: jp_tk f d (k + 1) 0 from if_neg z] at h6 h8
      rw [jp_tb_app, jp_tb_cons, List.append_assoc, List.append_assoc] at h8
      have n0 := jp_n_pos z
      have n13 := jp_n_le (gf k (by omega))
      obtain ⟨n, rfl⟩ : ∃ m, n = m + 1 + r / 16 := ⟨n - 1 - r / 16, by omega⟩
      refine jp_xrbz hln he hL hb hod (by omega) (fun _ _ _ => trivial) (r / 16) r i lv ra bb bc (by omega) h2 h5 (fun q => h6 _ (List.mem_append.mpr (Or.inl (List.mem_replicate.mpr ⟨by omega, rfl⟩)))) (by omega) h7 h8 (fun lv ra bb bc a1 a2 => ?_)
      refine jp_xrbt (q := r % 16) hln he hL hb hod (h6 _ (List.mem_append.mpr (Or.inr (List.mem_cons_self)))) rfl (by omega) (by omega) (by omega) (by omega) a2 (fun ra bb bc hR => ?_)
      rw [show k - (r - 16 * (r / 16)) + r % 16 = k by omega]
      exact ih (k + 1) 0 (i + r / 16 + 1) n _ ra bb bc (by omega) (by omega) (by omega) (by omega) (fun j hj hj2 => absurd hj (by omega)) (fun t ht => h6 t (List.mem_append.mpr (Or.inr (List.mem_cons_of_mem _ ht)))) (jp_Rv_put (by omega) a1) hR
theorem jp_xreadBlock {post : SX → Prop} {nq ni qu iv ln ct pr bb bc ra dc : Int32} {pi qa od cl bs wt ab co so fc fp sa lv sh hf su : Nat → Int32} {wi : Nat → Int64} {f : Nat → Int32} {C N : Nat → Nat} {e L b : Nat} {σ : List Nat} (hln : ln = nI L) (he : e ≤ L) (hL : L ≤ 1900) (hb : b < 4) (hod : ∀ k, k < 64 → od k = nI (jp_zg k)) (gf : ∀ k, k < 64 → jp_ab (f k) < 2 ^ 13)
    (hok : ∀ t ∈ jp_bt f pr, jp_Ok so fc fp sa C N t) (h0 : ∀ i, i < 256 → i / 64 = b → lv i = 0) (hR : jp_RD bs e ra bb bc (jp_tb C N (jp_bt f pr) ++ σ))
    (h : ∀ lv' ra' bb' bc', jp_Rv b 64 f lv' lv → jp_RD bs e ra' bb' bc' σ → post (nq, ni, qu, iv, ln, ct, f 0, bb', bc', ra', dc, pi, qa, od, cl, bs, wt, ab, co, so, fc, fp, sa, lv', sh, hf, su, wi)) : wpX_readBlock post (nq, ni, qu, iv, ln, ct, pr, bb, bc, ra, dc, pi, qa, od, cl, bs, wt, ab, co, so, fc, fp, sa, lv, sh, hf, su, wi) (nI b) := by
  unfold jp_bt at hok hR
  rw [jp_tb_cons, List.append_assoc] at hR
  unfold jp_t1 at hR
  rw [List.append_assoc] at hR
  obtain ⟨o1, o2⟩ := hok _ List.mem_cons_self
  have n13 : jp_n (f 0 - pr) ≤ 13 := jp_n_le o2
  have o1 : jp_Cw so fc fp sa 1 (256 + jp_n (f 0 - pr)) (N (256 + jp_n (f 0 - pr))) (C (256 + jp_n (f 0 - pr))) := by
    rw [if_neg (by show ¬ 256 + jp_n (f 0 - pr) < 256; omega)] at o1
    exact o1
  have e2 : (nI (256 + jp_n (f 0 - pr)) - 256) &&& 15 = nI (jp_n (f 0 - pr)) := by
    rw [show nI (256 + jp_n (f 0 - pr)) - 256 = nI (jp_n (f 0 - pr)) from (pk_sub (b := 256) (by omega)).trans (congrArg nI (by omega)), pk_andN (by omega) 4 (by decide)]
    exact congrArg nI (by omega)
  have e1 : nI b * 64 = nI (64 * b) := by rw [show (64 : Int32) = nI 64 from rfl, pk_mul, Nat.mul_comm]
  refine jp_xgetSymbol (t := 1) hln he hL (by decide) o1 hR (fun ra1 bb1 bc1 hR1 => ?_)
  rw [e2]
  refine jp_xgetValue hln he hL (by show jp_n (f 0 - pr) ≤ 14; omega) hR1 (fun ra2 bb2 bc2 hR2 => nm_r (e' := f 0) (by show pr + (f 0 - pr) = f 0; grind) ?_)
  rw [e1, nI_clamp (by omega)]
  refine ⟨vp_in_nI (by omega) (by decide), nm_e ⟨65, jp_xrb48 hln he hL hb hod gf (fun lv' ra bb bc a1 a2 => h lv' ra bb bc a1 a2) 63 1 0 0 65 _ ra2 bb2 bc2 rfl (by decide) (by decide) rfl (fun j hj hj2 => absurd hj (by omega)) (fun t ht => hok t (List.mem_cons_of_mem _ ht)) (jp_Rv_put (k := 0) (by decide) ⟨fun m hm => absurd hm (by omega), fun m _ hm => ?_, fun i _ _ => rfl⟩) hR2⟩⟩
  have := jp_zg_lt m hm
  exact h0 _ (by omega) (by omega)
end
section
/-! shown pixels: the sums -/
def jp_cL (u : Nat) : Int64 := if u = 0 then 1 else 2
def jp_cI (u : Nat) : Int32 := if u = 0 then 1 else 2
def jp_ug (wi : Nat → Int64) (a s i u : Nat) : Int64 := (if u = 0 then wi (a + u * s) else 2 * wi (a + u * s)) * (jp_k u i).toInt64
theorem jp_ug_c (wi : Nat → Int64) (a s i u : Nat) : jp_ug wi a s i u = jp_cL u * wi (a + u * s) * (jp_k u i).toInt64 := by
  unfold jp_ug jp_cL
  by_cases h : u = 0
  · rw [if_pos h, if_pos h, Int64.one_mul]
  · rw [if_neg h, if_neg h]
def jp_ty (q : Int32) (L : Nat → Int32) (b x y v u : Nat) : Int64 := ((((jp_cI u * jp_cI v).toInt64 * (L (64 * b + 8 * v + u)).toInt64) * (jp_d q u v).toInt64) * (jp_k u x).toInt64) * (jp_k v y).toInt64
def jp_T (q : Int32) (L : Nat → Int32) (b x y : Nat) : Int64 := jp_sL (fun v => jp_sL (jp_ty q L b x y v) 8) 8
theorem jp_cIL (u v : Nat) : (jp_cI u * jp_cI v).toInt64 = jp_cL u * jp_cL v := by
  unfold jp_cI jp_cL
  by_cases h : u = 0
  · by_cases h2 : v = 0
    · rw [if_pos h, if_pos h2, if_pos h, if_pos h2]; decide
    · rw [if_pos h, if_neg h2, if_pos h, if_neg h2]; decide
  · by_cases h2 : v = 0
    · rw [if_neg h, if_pos h2, if_neg h, if_pos h2]; decide
    · rw [if_neg h, if_neg h2, if_neg h, if_neg h2]; decide
theorem jp_T_sep {q : Int32} {L : Nat → Int32} {b x y : Nat} {w0 w1 : Nat → Int64} (h0 : ∀ v, v < 8 → ∀ u, u < 8 → w0 (u + v * 8) = (L (64 * b + 8 * v + u)).toInt64 * (jp_d q u v).toInt64)
    (h1 : ∀ u, u < 8 → w1 (8 * y + u) = jp_sL (jp_ug w0 u 8 y) 8) : jp_sL (jp_ug w1 (8 * y) 1 x) 8 = jp_T q L b x y := by
  have e1 : ∀ u, u < 8 → jp_ug w1 (8 * y) 1 x u = jp_sL (fun v => jp_ty q L b x y v u) 8 := by
    intro u hu
    rw [jp_ug_c, Nat.mul_one, h1 u hu, show ∀ a s k : Int64, a * s * k = s * (a * k) from fun a s k => by grind, jp_sL_mul]
    apply jp_sL_congr
    intro v hv
    rw [jp_ug_c, h0 v hv u hu]
    unfold jp_ty
    rw [jp_cIL]
    grind
  rw [jp_sL_congr e1]
  exact jp_sL_swap (fun u v => jp_ty q L b x y v u) 8 8
theorem jp_64 (x : Int32) : x.toInt64 = Int64.ofInt x.toInt := by
  apply Int64.toInt_inj.mp
  have a := x.le_toInt
  have b := x.toInt_lt
  rw [Int32.toInt_toInt64, jp_ofL (by omega) (by omega)]
theorem jp_ab_i {v : Int32} {n : Nat} (h : jp_ab v ≤ n) : -(n : Int) ≤ v.toInt ∧ v.toInt ≤ n := by
  unfold jp_ab at h; omega
theorem jp_cI_b (u v : Nat) : -4 ≤ (jp_cI u * jp_cI v).toInt ∧ (jp_cI u * jp_cI v).toInt ≤ 4 := by
  unfold jp_cI
  by_cases h : u = 0
  · by_cases h2 : v = 0
    · rw [if_pos h, if_pos h2]; decide
    · rw [if_pos h, if_neg h2]; decide
  · by_cases h2 : v = 0
    · rw [if_neg h, if_pos h2]; decide
    · rw [if_neg h, if_neg h2]; decide
theorem jp_T_z {q : Nat} {L : Nat → Int32} (q1 : 1 ≤ q) (q8 : q ≤ 8) (hL : ∀ i, i < 256 → jp_ab (L i) ≤ 2048) {b x y : Nat} (hb : b < 4) (hx : x < 8) (hy : y < 8) :
    -2251799813685248 ≤ (jp_T (nI q) L b x y).toInt ∧ (jp_T (nI q) L b x y).toInt ≤ 2251799813685248 := by
  let z : Nat → Nat → Int := fun v u => ((((jp_cI u * jp_cI v).toInt * (L (64 * b + 8 * v + u)).toInt) * (jp_d (nI q) u v).toInt) * (jp_k u x).toInt) * (jp_k v y).toInt
  have e : jp_T (nI q) L b x y = Int64.ofInt (jp_sZ (fun v => jp_sZ (fun u => z v u) 8) 8) := by
    unfold jp_T
    rw [← jp_sL_of]
    apply jp_sL_congr
    intro v _
    rw [← jp_sL_of]
    apply jp_sL_congr
    intro u _
    show jp_ty (nI q) L b x y v u = Int64.ofInt (((((jp_cI u * jp_cI v).toInt * (L (64 * b + 8 * v + u)).toInt) * (jp_d (nI q) u v).toInt) * (jp_k u x).toInt) * (jp_k v y).toInt)
    unfold jp_ty
    rw [Int64.ofInt_mul, Int64.ofInt_mul, Int64.ofInt_mul, Int64.ofInt_mul, ← jp_64, ← jp_64, ← jp_64, ← jp_64, ← jp_64]
  have bz : ∀ v, v < 8 → ∀ u, u < 8 → -35184372088832 ≤ z v u ∧ z v u ≤ 35184372088832 := by
    intro v hv u hu
    have h1 := jp_mulbd (A := 4) (B := 2048) (jp_cI_b u v) (jp_ab_i (hL (64 * b + 8 * v + u) (by omega)))
    have d := jp_d_bd (u := u) (v := v) q1 q8 hu hv
    have h2 := jp_mulbd (A := 8192) (B := 1048576) (y := (jp_d (nI q) u v).toInt) h1 (by rw [jp_d_nat, nI_toInt (by omega)]; omega)
    have h3 := jp_mulbd (A := 8589934592) (B := 64) h2 (jp_k_bd u hu x hx)
    exact jp_mulbd (A := 549755813888) (B := 64) h3 (jp_k_bd v hv y hy)
  have b2 : ∀ v, v < 8 → -281474976710656 ≤ jp_sZ (fun u => z v u) 8 ∧ jp_sZ (fun u => z v u) 8 ≤ 281474976710656 := by
    intro v hv
    exact jp_sZ_bd (n := 8) (fun u hu => bz v hv u hu)
  have b3 : -2251799813685248 ≤ jp_sZ (fun v => jp_sZ (fun u => z v u) 8) 8 ∧ jp_sZ (fun v => jp_sZ (fun u => z v u) 8) 8 ≤ 2251799813685248 := jp_sZ_bd (n := 8) b2
  rw [e, jp_ofL (by omega) (by omega)]
  exact b3
def jp_zz (t : Int64) : Int64 := (t + 536870912) >>> ((30 : Int32).toInt64 &&& 63)
def jp_cp (t : Int64) : Int32 := if -128 ≤ jp_zz t then (if jp_zz t ≤ 127 then 128 + (jp_zz t).toInt32 else 255) else 0
theorem jp_zz_b {t : Int64} (h : -2251799813685248 ≤ t.toInt ∧ t.toInt ≤ 2251799813685248) : -4194304 ≤ (jp_zz t).toInt ∧ (jp_zz t).toInt ≤ 4194304 := by
  have e : (jp_zz t).toInt = (t + 536870912).toInt >>> 30 := by
    show ((t + 536870912).toBitVec.sshiftRight (((30 : Int32).toInt64 &&& 63).toBitVec.smod 64).toNat).toInt = _
    rw [show (((30 : Int32).toInt64 &&& 63).toBitVec.smod 64).toNat = 30 by decide, BitVec.toInt_sshiftRight]
    rfl
  have e2 : (t + 536870912).toInt = t.toInt + 536870912 := by
    rw [Int64.toInt_add, show (536870912 : Int64).toInt = 536870912 from by decide, Int.bmod_eq_of_le (by omega) (by omega)]
  rw [e, e2, Int.shiftRight_eq_div_pow]
  omega
/-- what the component clamps is what the reference picks -/
theorem jp_cp_c {t : Int64} {A : Int32 → Prop} (h : -2251799813685248 ≤ t.toInt ∧ t.toInt ≤ 2251799813685248) (hA : A (jp_cp t)) :
    ((0 : Int32) ≤ 128 + (jp_zz t).toInt32 → (128 + (jp_zz t).toInt32 ≤ 255 → A (128 + (jp_zz t).toInt32)) ∧ (¬ 128 + (jp_zz t).toInt32 ≤ 255 → A 255)) ∧ (¬ (0 : Int32) ≤ 128 + (jp_zz t).toInt32 → A 0) := by
  have b := jp_zz_b h
  have e : (128 + (jp_zz t).toInt32).toInt = 128 + (jp_zz t).toInt := by
    rw [Int32.toInt_add, Int64.toInt_toInt32, show (128 : Int32).toInt = 128 from by decide, Int.bmod_eq_of_le (n := (jp_zz t).toInt) (by omega) (by omega), Int.bmod_eq_of_le (by omega) (by omega)]
  unfold jp_cp at hA
  have c1 : (-128 ≤ jp_zz t) ↔ -128 ≤ (jp_zz t).toInt := Int64.le_iff_toInt_le
  have c2 : (jp_zz t ≤ 127) ↔ (jp_zz t).toInt ≤ 127 := Int64.le_iff_toInt_le
  rw [Int32.le_iff_toInt_le, Int32.le_iff_toInt_le, e, Int32.toInt_zero, show (255 : Int32).toInt = 255 from by decide]
  by_cases h1 : -128 ≤ jp_zz t
  · rw [if_pos h1] at hA
    rw [c1] at h1
    by_cases h2 : jp_zz t ≤ 127
    · rw [if_pos h2] at hA
      rw [c2] at h2
      exact ⟨fun _ => ⟨fun _ => hA, fun z => absurd z (by omega)⟩, fun z => absurd z (by omega)⟩
    · rw [if_neg h2] at hA
      rw [c2] at h2
      exact ⟨fun _ => ⟨fun z => absurd z (by omega), fun _ => hA⟩, fun z => absurd z (by omega)⟩
  · rw [if_neg h1] at hA
    rw [c1] at h1
    exact ⟨fun z => absurd z (by omega), fun _ => hA⟩
def jp_bn (n : Nat) : Nat := 2 * (n / 128) + n % 16 / 8
def jp_sh (q : Int32) (L : Nat → Int32) (n : Nat) : Int32 := jp_cp (jp_T q L (jp_bn n) (n % 8) (n / 16 % 8))
end
section
/-! unfolding -/
theorem jp_xun19 {post : Int64 → Prop} {nq ni qu iv ln ct pr bb bc ra dc : Int32} {pi qa od cl bs wt ab co so fc fp sa lv sh hf su : Nat → Int32} {wi : Nat → Int64} (hq : ∀ t, t < 9 → qa t = jp_qI t) {a s i : Nat} (hi : i < 8) (hs : a + 7 * s < 64) (h : post (jp_sL (jp_ug wi a s i) 8)) :
    ∀ d u : Nat, u + d = 8 → 1 ≤ u → wX_unfolded_19 post (nI a) (nI s) (nI i) nq ni qu iv ln ct pr bb bc ra dc pi qa od cl bs wt ab co so fc fp sa lv sh hf su wi (d + 1) (jp_sL (jp_ug wi a s i) u) (nI u) := by
  intro d
  induction d with
  | zero =>
    intro u hu hu1
    obtain rfl : u = 8 := by omega
    exact br_t (by decide) h
  | succ d ih =>
    intro u hu hu1
    have m1 : u * s ≤ 7 * s := Nat.mul_le_mul_right s (by omega)
    have e1 : nI a + nI u * nI s = nI (a + u * s) := by rw [pk_mul, nI_add]
    refine br_f (nI_ge (b := 8) (by omega) (by decide)) ?_
    rw [e1, nI_clamp (by omega)]
    refine ⟨vp_in_nI (by omega) (by decide), jp_xwave hq (by omega) hi (nm_r (e' := jp_sL (jp_ug wi a s i) (u + 1)) ?_ (nm_r (nI_1 u) (ih (u + 1) (by omega) (by omega))))⟩
    rw [jp_sL, jp_ug, if_neg (by omega)]
theorem jp_xunfolded {post : Int64 → Prop} {nq ni qu iv ln ct pr bb bc ra dc : Int32} {pi qa od cl bs wt ab co so fc fp sa lv sh hf su : Nat → Int32} {wi : Nat → Int64} (hq : ∀ t, t < 9 → qa t = jp_qI t) {a s i : Nat} (hi : i < 8) (hs : a + 7 * s < 64) (h : post (jp_sL (jp_ug wi a s i) 8)) : wpX_unfolded post (nq, ni, qu, iv, ln, ct, pr, bb, bc, ra, dc, pi, qa, od, cl, bs, wt, ab, co, so, fc, fp, sa, lv, sh, hf, su, wi) (nI a) (nI s) (nI i) := by
  unfold wpX_unfolded
  dsimp only
  rw [nI_clamp (by omega)]
  refine ⟨vp_in_nI (by omega) (by decide), jp_xwave (u := 0) hq (by decide) hi (nm_r (e' := jp_sL (jp_ug wi a s i) 1) ?_ ⟨8, jp_xun19 hq hi hs h 7 1 rfl (by decide)⟩)⟩
  rw [jp_sL, jp_sL, jp_ug, if_pos rfl, Int64.zero_add, Nat.zero_mul, Nat.add_zero]
theorem jp_xunfoldColumn {post : SX → Prop} {nq ni qu iv ln ct pr bb bc ra dc : Int32} {pi qa od cl bs wt ab co so fc fp sa lv sh hf su : Nat → Int32} {wi : Nat → Int64} (hq : ∀ t, t < 9 → qa t = jp_qI t) {u : Nat} (hu : u < 8)
    (h : ∀ wi', (∀ m, m < 64 → m % 8 = u → wi' m = jp_sL (jp_ug wi u 8 (m / 8)) 8) → (∀ m, m < 64 → m % 8 ≠ u → wi' m = wi m) → post (nq, ni, qu, iv, ln, ct, pr, bb, bc, ra, dc, pi, qa, od, cl, bs, wt, ab, co, so, fc, fp, sa, lv, sh, hf, su, wi')) : wpX_unfoldColumn post (nq, ni, qu, iv, ln, ct, pr, bb, bc, ra, dc, pi, qa, od, cl, bs, wt, ab, co, so, fc, fp, sa, lv, sh, hf, su, wi) (nI u) := by
  have e1 : (8 : Int32) + nI u = nI (8 + u) := nI_add 8 u
  have e2 : (16 : Int32) + nI u = nI (16 + u) := nI_add 16 u
  have e3 : (24 : Int32) + nI u = nI (24 + u) := nI_add 24 u
  have e4 : (32 : Int32) + nI u = nI (32 + u) := nI_add 32 u
  have e5 : (40 : Int32) + nI u = nI (40 + u) := nI_add 40 u
  have e6 : (48 : Int32) + nI u = nI (48 + u) := nI_add 48 u
  have e7 : (56 : Int32) + nI u = nI (56 + u) := nI_add 56 u
  refine jp_xunfolded (s := 8) (i := 0) hq (by decide) (by omega) ?_
  refine jp_xunfolded (s := 8) (i := 1) hq (by decide) (by omega) ?_
  refine jp_xunfolded (s := 8) (i := 2) hq (by decide) (by omega) ?_
  refine jp_xunfolded (s := 8) (i := 3) hq (by decide) (by omega) ?_
  refine jp_xunfolded (s := 8) (i := 4) hq (by decide) (by omega) ?_
  refine jp_xunfolded (s := 8) (i := 5) hq (by decide) (by omega) ?_
  refine jp_xunfolded (s := 8) (i := 6) hq (by decide) (by omega) ?_
  refine jp_xunfolded (s := 8) (i := 7) hq (by decide) (by omega) ?_
  rw [e1, e2, e3, e4, e5, e6, e7]
  rw [nI_clamp (n := u) (by omega), nI_clamp (n := 8 + u) (by omega), nI_clamp (n := 16 + u) (by omega), nI_clamp (n := 24 + u) (by omega), nI_clamp (n := 32 + u) (by omega), nI_clamp (n := 40 + u) (by omega), nI_clamp (n := 48 + u) (by omega), nI_clamp (n := 56 + u) (by omega)]
  refine ⟨vp_in_nI (by omega) (by decide), nm_e ⟨vp_in_nI (by omega) (by decide), nm_e ⟨vp_in_nI (by omega) (by decide), nm_e ⟨vp_in_nI (by omega) (by decide), nm_e ⟨vp_in_nI (by omega) (by decide), nm_e ⟨vp_in_nI (by omega) (by decide), nm_e ⟨vp_in_nI (by omega) (by decide), nm_e ⟨vp_in_nI (by omega) (by decide), nm_e ?_⟩⟩⟩⟩⟩⟩⟩⟩
  refine h _ (fun m hm hmu => ?_) (fun m hm hmu => ?_)
  · rcases (by omega : m = u ∨ m = 8 + u ∨ m = 16 + u ∨ m = 24 + u ∨ m = 32 + u ∨ m = 40 + u ∨ m = 48 + u ∨ m = 56 + u) with e | e | e | e | e | e | e | e
    · rw [e, show (u) / 8 = 0 by omega, pk_uLn (by omega), pk_uLn (by omega), pk_uLn (by omega), pk_uLn (by omega), pk_uLn (by omega), pk_uLn (by omega), pk_uLn (by omega), pk_uLs]
    · rw [e, show (8 + u) / 8 = 1 by omega, pk_uLn (by omega), pk_uLn (by omega), pk_uLn (by omega), pk_uLn (by omega), pk_uLn (by omega), pk_uLn (by omega), pk_uLs]
    · rw [e, show (16 + u) / 8 = 2 by omega, pk_uLn (by omega), pk_uLn (by omega), pk_uLn (by omega), pk_uLn (by omega), pk_uLn (by omega), pk_uLs]
    · rw [e, show (24 + u) / 8 = 3 by omega, pk_uLn (by omega), pk_uLn (by omega), pk_uLn (by omega), pk_uLn (by omega), pk_uLs]
    · rw [e, show (32 + u) / 8 = 4 by omega, pk_uLn (by omega), pk_uLn (by omega), pk_uLn (by omega), pk_uLs]
    · rw [e, show (40 + u) / 8 = 5 by omega, pk_uLn (by omega), pk_uLn (by omega), pk_uLs]
    · rw [e, show (48 + u) / 8 = 6 by omega, pk_uLn (by omega), pk_uLs]
    · rw [e, show (56 + u) / 8 = 7 by omega, pk_uLs]
  · rw [pk_uLn (by omega), pk_uLn (by omega), pk_uLn (by omega), pk_uLn (by omega), pk_uLn (by omega), pk_uLn (by omega), pk_uLn (by omega), pk_uLn (by omega)]
/-! a block is shown -/
theorem jp_xclamp {post : Int32 → Prop} {nq ni qu iv ln ct pr bb bc ra dc : Int32} {pi qa od cl bs wt ab co so fc fp sa lv sh hf su : Nat → Int32} {wi : Nat → Int64} {t : Int64} (h : -2251799813685248 ≤ t.toInt ∧ t.toInt ≤ 2251799813685248) (hA : post (jp_cp t)) : wpX_clamp post (nq, ni, qu, iv, ln, ct, pr, bb, bc, ra, dc, pi, qa, od, cl, bs, wt, ab, co, so, fc, fp, sa, lv, sh, hf, su, wi) (128 + ((t + 536870912) >>> ((30 : Int32).toInt64 &&& 63)).toInt32) :=
  jp_cp_c (A := post) h hA
theorem jp_xsb100 {post : SX → Prop} {J : Int32 → (Nat → Int32) → (Nat → Int32) → (Nat → Int32) → (Nat → Int32) → (Nat → Int32) → (Nat → Int32) → (Nat → Int32) → (Nat → Int32) → (Nat → Int32) → (Nat → Int32) → (Nat → Int32) → (Nat → Int32) → (Nat → Int32) → (Nat → Int32) → (Nat → Int32) → (Nat → Int32) → (Nat → Int64) → Prop} {sh0 F : Nat → Int32} {nq ni qu iv ln ct pr bb bc ra dc : Int32} {pi qa od cl bs wt ab co so fc fp sa lv hf su : Nat → Int32} {wi : Nat → Int64} (hq : ∀ t, t < 9 → qa t = jp_qI t) {c y : Nat} (hc : c ≤ 136) (hy : y < 8) {P : Nat → Prop}
    (hF : ∀ x, x < 8 → (-2251799813685248 ≤ (jp_sL (jp_ug wi (8 * y) 1 x) 8).toInt ∧ (jp_sL (jp_ug wi (8 * y) 1 x) 8).toInt ≤ 2251799813685248) ∧ F (c + 16 * y + x) = jp_cp (jp_sL (jp_ug wi (8 * y) 1 x) 8))
    (hP : ∀ n, P n ↔ ∃ j i, j < 8 ∧ i < 8 ∧ n = c + 16 * j + i)
    (hJ : ∀ sh, (∀ n, n < 256 → ¬ P n → sh n = sh0 n) → (∀ j, j ≤ y → ∀ i, i < 8 → sh (c + 16 * j + i) = F (c + 16 * j + i)) → J (nI (y + 1)) pi qa od cl bs wt ab co so fc fp sa lv sh hf su wi) :
    ∀ d x : Nat, x + d = 8 → ∀ sh, (∀ n, n < 256 → ¬ P n → sh n = sh0 n) → (∀ j, j < y → ∀ i, i < 8 → sh (c + 16 * j + i) = F (c + 16 * j + i)) → (∀ i, i < x → sh (c + 16 * y + i) = F (c + 16 * y + i)) → wX_showBlock_100 post J (nI c) (nI y) nq ni qu iv ln ct pr bb bc ra dc (d + 1) (nI x) pi qa od cl bs wt ab co so fc fp sa lv sh hf su wi := by
  intro d
  induction d with
  | zero =>
    intro x hx sh h1 h2 h3
    obtain rfl : x = 8 := by omega
    refine br_t (by decide) (nm_r (nI_1 y) (hJ sh h1 (fun j hj i hi => ?_)))
    by_cases e : j = y
    · rw [e]; exact h3 i hi
    · exact h2 j (by omega) i hi
  | succ d ih =>
    intro x hx sh h1 h2 h3
    have e1 : (nI c + nI y * 16) + nI x = nI (c + 16 * y + x) := by
      rw [show (16 : Int32) = nI 16 from rfl, pk_mul, nI_add, nI_add, Nat.mul_comm]
    have e3 : nI y * 8 = nI (8 * y) := by
      rw [show (8 : Int32) = nI 8 from rfl, pk_mul, Nat.mul_comm]
    obtain ⟨f1, f2⟩ := hF x (by omega)
    refine br_f (nI_ge (b := 8) (by omega) (by decide)) ?_
    rw [e1, e3, nI_clamp (by omega)]
    refine jp_xunfolded (s := 1) hq (by omega) (by omega) (nm_e (jp_xclamp f1 ⟨vp_in_nI (by omega) (by decide), nm_e (nm_r (nI_1 x) (ih (x + 1) (by omega) _ (fun n hn hp => ?_) (fun j hj i hi => ?_) (fun i hi => ?_)))⟩))
    · rw [pk_un (fun e => hp ((hP n).mpr ⟨y, x, hy, by omega, e⟩))]
      exact h1 n hn hp
    · rw [pk_un (by omega)]
      exact h2 j hj i hi
    · by_cases e : i = x
      · rw [e, pk_us, f2]
      · rw [pk_un (by omega)]
        exact h3 i (by omega)
theorem jp_xsb91 {post : SX → Prop} {sh0 F : Nat → Int32} {nq ni qu iv ln ct pr bb bc ra dc : Int32} {pi qa od cl bs wt ab co so fc fp sa lv hf su : Nat → Int32} {wi : Nat → Int64} (hq : ∀ t, t < 9 → qa t = jp_qI t) {c : Nat} (hc : c ≤ 136) {P : Nat → Prop}
    (hF : ∀ y, y < 8 → ∀ x, x < 8 → (-2251799813685248 ≤ (jp_sL (jp_ug wi (8 * y) 1 x) 8).toInt ∧ (jp_sL (jp_ug wi (8 * y) 1 x) 8).toInt ≤ 2251799813685248) ∧ F (c + 16 * y + x) = jp_cp (jp_sL (jp_ug wi (8 * y) 1 x) 8))
    (hP : ∀ n, P n ↔ ∃ j i, j < 8 ∧ i < 8 ∧ n = c + 16 * j + i)
    (h : ∀ sh, (∀ n, n < 256 → ¬ P n → sh n = sh0 n) → (∀ n, P n → sh n = F n) → post (nq, ni, qu, iv, ln, ct, pr, bb, bc, ra, dc, pi, qa, od, cl, bs, wt, ab, co, so, fc, fp, sa, lv, sh, hf, su, wi)) :
    ∀ d y : Nat, y + d = 8 → ∀ sh, (∀ n, n < 256 → ¬ P n → sh n = sh0 n) → (∀ j, j < y → ∀ i, i < 8 → sh (c + 16 * j + i) = F (c + 16 * j + i)) → wX_showBlock_91 post (nI c) nq ni qu iv ln ct pr bb bc ra dc (d + 1) (nI y) pi qa od cl bs wt ab co so fc fp sa lv sh hf su wi := by
  intro d
  induction d with
  | zero =>
    intro y hy sh h1 h2
    obtain rfl : y = 8 := by omega
    refine br_t (by decide) (h sh h1 (fun n hn => ?_))
    obtain ⟨j, i, hj, hi, rfl⟩ := (hP n).mp hn
    exact h2 j hj i hi
  | succ d ih =>
    intro y hy sh h1 h2
    exact br_f (nI_ge (b := 8) (by omega) (by decide)) ⟨9, jp_xsb100 hq hc (by omega) (hF y (by omega)) hP (fun sh a1 a2 => ih (y + 1) (by omega) sh a1 (fun j hj => a2 j (by omega))) 8 0 rfl sh h1 h2 (fun i hi => absurd hi (by omega))⟩
theorem jp_xsb66 {post : SX → Prop} {nq ni qu iv ln ct pr bb bc ra dc : Int32} {pi qa od cl bs wt ab co so fc fp sa lv sh hf su : Nat → Int32} {w0 : Nat → Int64} (hq : ∀ t, t < 9 → qa t = jp_qI t) {b : Nat} (hb : b < 4)
    (h : ∀ wi, (∀ m, m < 64 → wi m = jp_sL (jp_ug w0 (m % 8) 8 (m / 8)) 8) → ∃ n91, wX_showBlock_91 post (nI (jp_co b)) nq ni qu iv ln ct pr bb bc ra dc n91 0 pi qa od cl bs wt ab co so fc fp sa lv sh hf su wi) :
    ∀ d x : Nat, x + d = 8 → ∀ wi, (∀ m, m < 64 → m % 8 < x → wi m = jp_sL (jp_ug w0 (m % 8) 8 (m / 8)) 8) → (∀ m, m < 64 → x ≤ m % 8 → wi m = w0 m) → wX_showBlock_66 post (nI b) (d + 1) (nI x) nq ni qu iv ln ct pr bb bc ra dc pi qa od cl bs wt ab co so fc fp sa lv sh hf su wi := by
  intro d
  induction d with
  | zero =>
    intro x hx wi h1 h2
    obtain rfl : x = 8 := by omega
    refine br_t (by decide) ?_
    unfold wpX_corner
    dsimp only
    rw [jp_co_c b hb]
    exact h wi (fun m hm => h1 m hm (by omega))
  | succ d ih =>
    intro x hx wi h1 h2
    refine br_f (nI_ge (b := 8) (by omega) (by decide)) (jp_xunfoldColumn hq (by omega) (fun wi' a1 a2 => nm_r (nI_1 x) (ih (x + 1) (by omega) wi' (fun m hm hx1 => ?_) (fun m hm hx1 => ?_))))
    · by_cases e : m % 8 = x
      · rw [a1 m hm e, e]
        apply jp_sL_congr
        intro v hv
        rw [jp_ug_c, jp_ug_c, h2 (x + v * 8) (by omega) (by omega)]
      · rw [a2 m hm e]
        exact h1 m hm (by omega)
    · rw [a2 m hm (by omega)]
      exact h2 m hm (by omega)
theorem jp_xsb10 {post : SX → Prop} {J : Int32 → (Nat → Int32) → (Nat → Int32) → (Nat → Int32) → (Nat → Int32) → (Nat → Int32) → (Nat → Int32) → (Nat → Int32) → (Nat → Int32) → (Nat → Int32) → (Nat → Int32) → (Nat → Int32) → (Nat → Int32) → (Nat → Int32) → (Nat → Int32) → (Nat → Int32) → (Nat → Int32) → (Nat → Int64) → Prop} {nq ni qu iv ln ct pr bb bc ra dc : Int32} {pi qa od cl bs wt ab co so fc fp sa lv sh hf su : Nat → Int32} {b y : Nat} (hb : b < 4) (hy : y < 8)
    (hJ : ∀ wi, (∀ m, m < 8 * (y + 1) → wi m = (lv (64 * b + m)).toInt64 * (jp_d qu (m % 8) (m / 8)).toInt64) → J (nI (y + 1)) pi qa od cl bs wt ab co so fc fp sa lv sh hf su wi) :
    ∀ d x : Nat, x + d = 8 → ∀ wi, (∀ m, m < 8 * y + x → wi m = (lv (64 * b + m)).toInt64 * (jp_d qu (m % 8) (m / 8)).toInt64) → wX_showBlock_10 post J (nI b) (nI y) nq ni qu iv ln ct pr bb bc ra dc (d + 1) (nI x) pi qa od cl bs wt ab co so fc fp sa lv sh hf su wi := by
  intro d
  induction d with
  | zero =>
    intro x hx wi h1
    obtain rfl : x = 8 := by omega
    exact br_t (by decide) (nm_r (nI_1 y) (hJ wi (fun m hm => h1 m (by omega))))
  | succ d ih =>
    intro x hx wi h1
    have e2 : nI y * 8 + nI x = nI (8 * y + x) := by
      rw [show (8 : Int32) = nI 8 from rfl, pk_mul, nI_add, Nat.mul_comm]
    have e3 : (nI b * 64 + nI y * 8) + nI x = nI (64 * b + (8 * y + x)) := by
      rw [show (64 : Int32) = nI 64 from rfl, show (8 : Int32) = nI 8 from rfl, pk_mul, pk_mul, nI_add, nI_add, Nat.mul_comm, Nat.mul_comm y, Nat.add_assoc]
    refine br_f (nI_ge (b := 8) (by omega) (by decide)) ?_
    unfold wpX_step
    dsimp only
    rw [e2, e3, nI_clamp (by omega), nI_clamp (by omega)]
    refine ⟨vp_in_nI (by omega) (by decide), vp_in_nI (by omega) (by decide), nm_e (nm_r (nI_1 x) (ih (x + 1) (by omega) _ (fun m hm => ?_)))⟩
    by_cases e : m = 8 * y + x
    · rw [e, pk_uLs, show (8 * y + x) / 8 = y by omega, show (8 * y + x) % 8 = x by omega]
      rfl
    · rw [pk_uLn e]
      exact h1 m (by omega)
theorem jp_xsb2 {post : SX → Prop} {nq ni qu iv ln ct pr bb bc ra dc : Int32} {pi qa od cl bs wt ab co so fc fp sa lv sh hf su : Nat → Int32} {b : Nat} (hb : b < 4)
    (h : ∀ wi, (∀ m, m < 64 → wi m = (lv (64 * b + m)).toInt64 * (jp_d qu (m % 8) (m / 8)).toInt64) → ∃ n66, wX_showBlock_66 post (nI b) n66 0 nq ni qu iv ln ct pr bb bc ra dc pi qa od cl bs wt ab co so fc fp sa lv sh hf su wi) :
    ∀ d y : Nat, y + d = 8 → ∀ wi, (∀ m, m < 8 * y → wi m = (lv (64 * b + m)).toInt64 * (jp_d qu (m % 8) (m / 8)).toInt64) → wX_showBlock_2 post (nI b) nq ni qu iv ln ct pr bb bc ra dc (d + 1) (nI y) pi qa od cl bs wt ab co so fc fp sa lv sh hf su wi := by
  intro d
  induction d with
  | zero =>
    intro y hy wi h1
    obtain rfl : y = 8 := by omega
    exact br_t (by decide) (h wi h1)
  | succ d ih =>
    intro y hy wi h1
    exact br_f (nI_ge (b := 8) (by omega) (by decide)) ⟨9, jp_xsb10 hb (by omega) (fun wi a1 => ih (y + 1) (by omega) wi a1) 8 0 rfl wi (fun m hm => h1 m (by omega))⟩
theorem jp_bn_co {b n : Nat} (hb : b < 4) (hn : n < 256) : jp_bn n = b ↔ ∃ j i, j < 8 ∧ i < 8 ∧ n = jp_co b + 16 * j + i := by
  unfold jp_bn jp_co
  constructor
  · intro h
    exact ⟨n / 16 % 8, n % 8, by omega, by omega, by omega⟩
  · rintro ⟨j, i, hj, hi, rfl⟩
    omega
theorem jp_sh_at {q : Int32} {L : Nat → Int32} {b y x : Nat} (hb : b < 4) (hy : y < 8) (hx : x < 8) : jp_sh q L (jp_co b + 16 * y + x) = jp_cp (jp_T q L b x y) := by
  unfold jp_sh
  rw [(jp_bn_co hb (by have := jp_co_le b hb; omega)).mpr ⟨y, x, hy, hx, rfl⟩]
  have e1 : (jp_co b + 16 * y + x) % 8 = x := by unfold jp_co; omega
  have e2 : (jp_co b + 16 * y + x) / 16 % 8 = y := by unfold jp_co; omega
  rw [e1, e2]
theorem jp_xshowBlock {post : SX → Prop} {nq ni qu iv ln ct pr bb bc ra dc : Int32} {pi qa od cl bs wt ab co so fc fp sa lv sh hf su : Nat → Int32} {wi : Nat → Int64} (hq : ∀ t, t < 9 → qa t = jp_qI t) {q b : Nat} (hqu : qu = nI q) (q1 : 1 ≤ q) (q8 : q ≤ 8) (hb : b < 4) (hL : ∀ i, i < 256 → jp_ab (lv i) ≤ 2048)
    (h : ∀ sh' wi', (∀ n, n < 256 → jp_bn n ≠ b → sh' n = sh n) → (∀ n, n < 256 → jp_bn n = b → sh' n = jp_sh qu lv n) → post (nq, ni, qu, iv, ln, ct, pr, bb, bc, ra, dc, pi, qa, od, cl, bs, wt, ab, co, so, fc, fp, sa, lv, sh', hf, su, wi')) : wpX_showBlock post (nq, ni, qu, iv, ln, ct, pr, bb, bc, ra, dc, pi, qa, od, cl, bs, wt, ab, co, so, fc, fp, sa, lv, sh, hf, su, wi) (nI b) := by
  refine ⟨9, jp_xsb2 hb (fun w0 hw0 => ⟨9, jp_xsb66 (w0 := w0) hq hb (fun w1 hw1 => ⟨9, ?_⟩) 8 0 rfl w0 (fun m hm z => absurd z (by omega)) (fun _ _ _ => rfl)⟩) 8 0 rfl wi (fun m hm => absurd hm (by omega))⟩
  have sep : ∀ y, y < 8 → ∀ x, x < 8 → jp_sL (jp_ug w1 (8 * y) 1 x) 8 = jp_T qu lv b x y := by
    intro y hy x hx
    refine jp_T_sep (w0 := w0) (fun v hv u hu => ?_) (fun u hu => ?_)
    · rw [hw0 _ (by omega), show (u + v * 8) % 8 = u by omega, show (u + v * 8) / 8 = v by omega, show 64 * b + (u + v * 8) = 64 * b + 8 * v + u by omega]
    · rw [hw1 _ (by omega), show (8 * y + u) % 8 = u by omega, show (8 * y + u) / 8 = y by omega]
  refine jp_xsb91 (sh0 := sh) (F := jp_sh qu lv) (P := fun n => ∃ j i, j < 8 ∧ i < 8 ∧ n = jp_co b + 16 * j + i) hq (jp_co_le b hb) (fun y hy x hx => ?_) (fun n => Iff.rfl) (fun sh' s1 s2 => h sh' w1 (fun n hn hnb => s1 n hn fun z => hnb ((jp_bn_co hb hn).mpr z)) (fun n hn hnb => s2 n ((jp_bn_co hb hn).mp hnb))) 8 0 rfl sh (fun _ _ _ => rfl) (fun j hj => absurd hj (by omega))
  rw [sep y hy x hx, jp_sh_at hb hy hx]
  refine ⟨?_, rfl⟩
  rw [hqu]
  exact jp_T_z q1 q8 hL hb hx hy
end
section
/-! what is stored, and reading it all -/
def jp_Sd (r : Nat) (L bs so fc fp sa : Nat → Int32) (C N : Nat → Nat) (s a z : Nat) : Prop :=
  ∃ (Bs : List Nat) (e : Nat), z = e + 2 ∧ jp_St bs Bs a e ∧ bs e = 255 ∧ bs (e + 1) = nI (208 + s) ∧
    ((Bs = [] ∧ ∀ i, i < 256 → i / 64 / r = s → L i = 0) ∨ ∃ π : List Nat, π.length < 8 ∧ jp_bo Bs = jp_tb C N (jp_TS r L s) ++ π ∧ ∀ t ∈ jp_TS r L s, jp_Ok so fc fp sa C N t)
def jp_Stored (r : Nat) (L bs so fc fp sa : Nat → Int32) (C N p : Nat → Nat) (Ln : Nat) : Prop :=
  Ln ≤ 1900 ∧ p 0 = 0 ∧ p (3 / r + 1) = Ln ∧ ∀ s, s ≤ 3 / r → jp_Sd r L bs so fc fp sa C N s (p s) (p (s + 1)) ∧ p (s + 1) ≤ Ln
def jp_G (r : Nat) (L bs so fc fp sa : Nat → Int32) (C N p : Nat → Nat) (s j b : Nat) (x2 ra bb bc pr : Int32) : Prop :=
  (x2 = 1 ∧ ra = nI (p s) ∧ p (s + 1) = p s + 2 ∧ ∀ i, i < 256 → i / 64 / r = s → L i = 0) ∨
  (x2 = 0 ∧ ∃ (e : Nat) (π : List Nat), p (s + 1) = e + 2 ∧ π.length < 8 ∧ jp_RD bs e ra bb bc (jp_tb C N (jp_sg r L b (min r (4 - s * r) - j)) ++ π) ∧ (∀ t ∈ jp_sg r L b (min r (4 - s * r) - j), jp_Ok so fc fp sa C N t) ∧ pr = if j = 0 then 0 else L (64 * (b - 1)))
theorem jp_xmark {post : Int32 → Prop} {nq ni qu iv ln ct pr bb bc ra dc : Int32} {pi qa od cl bs wt ab co so fc fp sa lv sh hf su : Nat → Int32} {wi : Nat → Int64} {Ln a : Nat} (hln : ln = nI Ln) (hL : Ln ≤ 1900) (ha : a + 1 < Ln) (h1 : bs a = 255 → ¬ bs (a + 1) < 208 → post 1) (h0 : ¬ (bs a = 255 ∧ ¬ bs (a + 1) < 208) → post 0) : wpX_markAt post (nq, ni, qu, iv, ln, ct, pr, bb, bc, ra, dc, pi, qa, od, cl, bs, wt, ab, co, so, fc, fp, sa, lv, sh, hf, su, wi) (nI a) := by
  unfold wpX_markAt
  dsimp only
  rw [hln, nI_1, nI_clamp (by omega), nI_clamp (by omega)]
  refine br_f (nI_ge (by omega) (by omega)) ⟨vp_in_nI (by omega) (by decide), br_c (fun z => ⟨vp_in_nI (by omega) (by decide), br_c (fun z2 => h0 fun q => q.2 z2) (fun z2 => h1 z z2)⟩) (fun z => h0 fun q => z q.1)⟩
theorem jp_rs {r s : Nat} (r1 : 1 ≤ r) (hs : s ≤ 3 / r) : s * r < 4 := by
  have : s * r ≤ 3 := by
    rw [Nat.le_div_iff_mul_le (by omega)] at hs
    exact hs
  omega
theorem jp_sg_ne {r : Nat} {L : Nat → Int32} {b d : Nat} (hd : 0 < d) : ∃ t l, jp_sg r L b d = t :: l := by
  obtain ⟨m, rfl⟩ : ∃ m, d = m + 1 := ⟨d - 1, by omega⟩
  rw [jp_sg]
  unfold jp_bk jp_bt
  exact ⟨_, _, rfl⟩
/-- the start of a segment -/
theorem jp_xstart {post : Int32 → Prop} {nq ni qu iv ln ct pr bb bc ra dc : Int32} {pi qa od cl bs wt ab co so fc fp sa lv sh hf su : Nat → Int32} {wi : Nat → Int64} {r s Ln : Nat} {L : Nat → Int32} {C N p : Nat → Nat} (hln : ln = nI Ln) (r1 : 1 ≤ r) (hS : jp_Stored r L bs so fc fp sa C N p Ln) (hs : s ≤ 3 / r)
    (h : ∀ x2, jp_G r L bs so fc fp sa C N p s 0 (s * r) x2 (nI (p s)) bb 0 0 → post x2) : wpX_markAt post (nq, ni, qu, iv, ln, ct, pr, bb, bc, ra, dc, pi, qa, od, cl, bs, wt, ab, co, so, fc, fp, sa, lv, sh, hf, su, wi) (nI (p s)) := by
  obtain ⟨hL, _, _, hS⟩ := hS
  obtain ⟨⟨Bs, e, h1, h2, h3, h4, h5⟩, h6⟩ := hS s hs
  have hle := jp_St_le h2
  have hr := jp_rs r1 hs
  refine jp_xmark hln hL (by omega) (fun z1 z2 => ?_) (fun z => ?_)
  · rcases h5 with ⟨rfl, h5⟩ | ⟨π, k1, k2, k3⟩
    · have h2 : p s = e := h2
      exact h 1 (Or.inl ⟨rfl, rfl, by omega, h5⟩)
    · exfalso
      cases Bs with
      | nil =>
        obtain ⟨t, l, et⟩ := jp_sg_ne (r := r) (L := L) (b := s * r) (d := min r (4 - s * r)) (by omega)
        have ok := (k3 t (by unfold jp_TS; rw [et]; exact List.mem_cons_self)).1.1
        unfold jp_TS at k2
        rw [et, jp_tb_cons] at k2
        have := congrArg List.length k2
        unfold jp_t1 at this
        rw [List.length_append, List.length_append, List.length_append, jp_lb_len] at this
        have e0 : (jp_bo []).length = 0 := rfl
        omega
      | cons B t =>
        obtain ⟨b1, b2, b3, b4⟩ := h2
        rw [b2] at z1
        have B5 := (nI_eq (b := 255) (by omega) (by decide)).mp z1
        rw [(b3 B5).1] at z2
        exact z2 (by decide)
  · rcases h5 with ⟨rfl, h5⟩ | ⟨π, k1, k2, k3⟩
    · exfalso
      have h2 : p s = e := h2
      rw [h2] at z
      have := jp_rs r1 hs
      refine z ⟨h3, ?_⟩
      rw [h4]
      exact nI_nlt (b := 208) (by omega) (by
        have : s ≤ s * r := Nat.le_mul_of_pos_right s (by omega)
        omega)
    · refine h 0 (Or.inr ⟨rfl, e, π, h1, k1, ?_, ?_, ?_⟩)
      · rw [Nat.sub_zero]
        unfold jp_TS at k2
        rw [← k2]
        exact jp_RD_0 h2
      · rw [Nat.sub_zero]
        exact k3
      · rw [if_pos rfl]
theorem jp_zz_all {b : Nat} {f : Nat → Int32} {lv L lv0 : Nat → Int32} (hf : ∀ k, f k = L (64 * b + jp_zg k)) (h : jp_Rv b 64 f lv lv0) {i : Nat} (hi : i / 64 = b) : lv i = L i := by
  obtain ⟨a1, a2⟩ := jp_iz_ok (i % 64) (by omega)
  have := h.1 _ a1
  rw [hf, a2, show 64 * b + i % 64 = i by omega] at this
  exact this
/-- a block in its segment -/
theorem jp_xde101 {post : SX → Prop} {J : Int32 → Int32 → Int32 → Int32 → Int32 → Int32 → Int32 → Int32 → Int32 → Int32 → Int32 → Int32 → Int32 → Int32 → (Nat → Int32) → (Nat → Int32) → (Nat → Int32) → (Nat → Int32) → (Nat → Int32) → (Nat → Int32) → (Nat → Int32) → (Nat → Int32) → (Nat → Int32) → (Nat → Int32) → (Nat → Int32) → (Nat → Int32) → (Nat → Int32) → (Nat → Int32) → (Nat → Int32) → (Nat → Int32) → (Nat → Int64) → Prop} {nq ni qu iv ln ct pr bb bc ra dc : Int32} {pi qa od cl bs wt ab co so fc fp sa lv sh hf su : Nat → Int32} {wi : Nat → Int64} {x2 : Int32} {r s j b Ln : Nat} {L : Nat → Int32} {C N p : Nat → Nat} (hln : ln = nI Ln) (r1 : 1 ≤ r) (r4 : r ≤ 4) (hS : jp_Stored r L bs so fc fp sa C N p Ln) (hs : s ≤ 3 / r) (hb : b < 4) (hbs : b = s * r + j) (hj : j < r)
    (hod : ∀ k, k < 64 → od k = nI (jp_zg k)) (hL : ∀ i, i < 256 → jp_ab (L i) ≤ 2048) (hG : jp_G r L bs so fc fp sa C N p s j b x2 ra bb bc pr)
    (h1 : ∀ i, i < 256 → i / 64 < b → lv i = L i) (h0 : ∀ i, i < 256 → b ≤ i / 64 → lv i = 0)
    (h : ∀ lv ra bb bc pr, (∀ i, i < 256 → i / 64 < b + 1 → lv i = L i) → (∀ i, i < 256 → b + 1 ≤ i / 64 → lv i = 0) → jp_G r L bs so fc fp sa C N p s (j + 1) (b + 1) x2 ra bb bc pr → J (nI (r - (j + 1))) x2 (nI (b + 1)) nq ni qu iv ln ct pr bb bc ra dc pi qa od cl bs wt ab co so fc fp sa lv sh hf su wi) :
    wX_decode_101 post J (nI (r - j)) x2 (nI b) nq ni qu iv ln ct pr bb bc ra dc pi qa od cl bs wt ab co so fc fp sa lv sh hf su wi := by
  have em : nI (r - j) + (-1) = nI (r - (j + 1)) := by
    rw [show r - j = r - (j + 1) + 1 by omega, pk_m1]
  rcases hG with ⟨g1, g2, g3, g4⟩ | ⟨g1, e, π, g2, g3, g4, g5, g6⟩
  · refine br_f (by rw [g1]; decide) (nm_r em (nm_r (nI_1 b) (h lv ra bb bc pr (fun i hi hib => ?_) (fun i hi hib => h0 i hi (by omega)) (Or.inl ⟨g1, g2, g3, g4⟩))))
    by_cases e : i / 64 = b
    · rw [h0 i hi (by omega), g4 i hi ?_]
      rw [e, hbs, Nat.mul_comm, Nat.mul_add_div (by omega), Nat.div_eq_of_lt hj, Nat.add_zero]
    · exact h1 i hi (by omega)
  · obtain ⟨k, ek⟩ : ∃ k, min r (4 - s * r) - j = k + 1 := ⟨min r (4 - s * r) - j - 1, by omega⟩
    rw [ek, jp_sg] at g4 g5
    rw [jp_tb_app, List.append_assoc, jp_bk_p hbs hj, ← g6] at g4
    rw [jp_bk_p hbs hj, ← g6] at g5
    have he : e ≤ Ln := by have := (hS.2.2.2 s hs).2; omega
    refine br_t g1 (jp_xreadBlock hln he hS.1 hb hod (fun k hk => ?_) (fun t ht => g5 t (List.mem_append.mpr (Or.inl ht))) (fun i hi hib => h0 i hi (by omega)) g4 (fun lv' ra' bb' bc' a1 a2 => nm_r em (nm_r (nI_1 b) (h lv' ra' bb' bc' _ (fun i hi hib => ?_) (fun i hi hib => ?_) (Or.inr ⟨g1, e, π, g2, g3, ?_, ?_, ?_⟩)))))
    · have := jp_zg_lt k hk
      have := hL (64 * b + jp_zg k) (by omega)
      omega
    · by_cases e : i / 64 = b
      · exact jp_zz_all (fun _ => rfl) a1 e
      · rw [a1.2.2 i hi e]; exact h1 i hi (by omega)
    · rw [a1.2.2 i hi (by omega)]; exact h0 i hi (by omega)
    · rw [show min r (4 - s * r) - (j + 1) = k by omega]; exact a2
    · rw [show min r (4 - s * r) - (j + 1) = k by omega]
      exact fun t ht => g5 t (List.mem_append.mpr (Or.inr ht))
    · rw [if_neg (by omega), Nat.add_sub_cancel]
      rfl
theorem jp_xde58 {post : SX → Prop} {nq ni qu iv ln ct dc : Int32} {pi qa od cl bs wt ab co so fc fp sa sh hf su : Nat → Int32} {wi : Nat → Int64} {r Ln : Nat} {L : Nat → Int32} {C N p : Nat → Nat} (hln : ln = nI Ln) (hiv : iv = nI r) (r1 : 1 ≤ r) (r4 : r ≤ 4) (hS : jp_Stored r L bs so fc fp sa C N p Ln)
    (hod : ∀ k, k < 64 → od k = nI (jp_zg k)) (hL : ∀ i, i < 256 → jp_ab (L i) ≤ 2048)
    (h : ∀ lv ra bb bc pr, (∀ i, i < 256 → lv i = L i) → ∃ n121, wX_decode_121 post n121 0 nq ni qu iv ln ct pr bb bc ra dc pi qa od cl bs wt ab co so fc fp sa lv sh hf su wi) :
    ∀ (d b s j : Nat) (x2 : Int32) (lv : Nat → Int32) (ra bb bc pr : Int32), b + d = 4 → b = s * r + j → j ≤ r → s ≤ 3 / r → jp_G r L bs so fc fp sa C N p s j b x2 ra bb bc pr → (∀ i, i < 256 → i / 64 < b → lv i = L i) → (∀ i, i < 256 → b ≤ i / 64 → lv i = 0) →
      wX_decode_58 post (d + 1) (nI (r - j)) x2 (nI b) nq ni qu iv ln ct pr bb bc ra dc pi qa od cl bs wt ab co so fc fp sa lv sh hf su wi := by
  intro d
  induction d with
  | zero =>
    intro b s j x2 lv ra bb bc pr hb hbs hj hs hG h1 h0
    obtain rfl : b = 4 := by omega
    exact br_t (by decide) (h lv ra bb bc pr (fun i hi => h1 i hi (by omega)))
  | succ d ih =>
    intro b s j x2 lv ra bb bc pr hb hbs hj hs hG h1 h0
    refine br_f (nI_ge (b := 4) (by omega) (by decide)) (pk_eq (r - j) 0 (fun z => ?_) (fun z => ?_))
    · obtain rfl : j = r := by omega
      have eb : b = (s + 1) * j + 0 := by rw [Nat.succ_mul]; omega
      have hs1 : s + 1 ≤ 3 / j := by
        rw [Nat.le_div_iff_mul_le (by omega)]; omega
      have era : ra + 2 = nI (p (s + 1)) := by
        rcases hG with ⟨g1, g2, g3, g4⟩ | ⟨g1, e, π, g2, g3, g4, g5, g6⟩
        · rw [g2, g3]; exact nI_add (p s) 2
        · rw [show min j (4 - s * j) - j = 0 by omega, jp_sg, jp_tb_nil, List.nil_append] at g4
          rw [jp_RD_end g4 g3, g2]; exact nI_add e 2
      refine nm_r era ?_
      refine jp_xstart hln r1 hS hs1 (fun x2' hG' => ?_)
      rw [show (s + 1) * j = b by omega] at hG'
      rw [hiv]
      refine jp_xde101 (j := 0) hln r1 r4 hS hs1 (by omega) eb (by omega) hod hL hG' h1 h0 (fun lv ra bb bc pr a1 a0 aG => ?_)
      rw [← hiv]
      exact ih (b + 1) (s + 1) 1 x2' lv ra bb bc pr (by omega) (by omega) r1 hs1 aG a1 a0
    · exact jp_xde101 hln r1 r4 hS hs (by omega) hbs (by omega) hod hL hG h1 h0 (fun lv ra bb bc pr a1 a0 aG => ih (b + 1) s (j + 1) x2 lv ra bb bc pr (by omega) (by omega) (by omega) hs aG a1 a0)
theorem jp_xde10 {post : SX → Prop} {nq ni qu iv ln ct pr bb bc ra dc : Int32} {pi qa od cl bs wt ab co so fc fp sa sh hf su : Nat → Int32} {wi : Nat → Int64} 
    (h : ∀ lv, (∀ i, i < 256 → lv i = 0) → wpX_markAt (fun r_3 => (∃ n58 : Nat, wX_decode_58 post n58 iv r_3 0 nq ni qu iv ln ct 0 bb 0 0 dc pi qa od cl bs wt ab co so fc fp sa lv sh hf su wi)) (nq, ni, qu, iv, ln, ct, pr, bb, bc, 0, dc, pi, qa, od, cl, bs, wt, ab, co, so, fc, fp, sa, lv, sh, hf, su, wi) 0) :
    ∀ (d x : Nat) (lv : Nat → Int32), x + d = 256 → (∀ i, i < x → lv i = 0) → wX_decode_10 post nq ni qu iv ln ct pr bb bc ra dc (d + 1) (nI x) pi qa od cl bs wt ab co so fc fp sa lv sh hf su wi := by
  intro d
  induction d with
  | zero =>
    intro x lv hx h1
    obtain rfl : x = 256 := by omega
    exact br_t (by decide) (h lv h1)
  | succ d ih =>
    intro x lv hx h1
    refine br_f (nI_ge (b := 256) (by omega) (by decide)) ⟨vp_in_nI (by omega) (by decide), nm_e (nm_r (nI_1 x) (ih (x + 1) _ (by omega) (fun i hi => ?_)))⟩
    rw [nI_clamp (by omega)]
    by_cases e : i = x
    · rw [e, pk_us]
    · rw [pk_un e]; exact h1 i (by omega)
theorem jp_T_congr {q : Int32} {L L' : Nat → Int32} (h : ∀ i, i < 256 → L i = L' i) {b x y : Nat} (hb : b < 4) : jp_T q L b x y = jp_T q L' b x y := by
  unfold jp_T
  apply jp_sL_congr
  intro v hv
  apply jp_sL_congr
  intro u hu
  unfold jp_ty
  rw [h _ (by omega)]
theorem jp_sh_congr {q : Int32} {L L' : Nat → Int32} (h : ∀ i, i < 256 → L i = L' i) {n : Nat} (hn : n < 256) : jp_sh q L n = jp_sh q L' n := by
  unfold jp_sh
  rw [jp_T_congr h (by unfold jp_bn; omega)]
theorem jp_xde121 {post : SX → Prop} {nq ni qu iv ln ct pr bb bc ra dc : Int32} {pi qa od cl bs wt ab co so fc fp sa lv hf su : Nat → Int32} (hq : ∀ t, t < 9 → qa t = jp_qI t) {q : Nat} (hqu : qu = nI q) (q1 : 1 ≤ q) (q8 : q ≤ 8) (hL : ∀ i, i < 256 → jp_ab (lv i) ≤ 2048)
    (h : ∀ sh wi, (∀ n, n < 256 → sh n = jp_sh qu lv n) → post (nq, ni, qu, iv, ln, ct, pr, bb, bc, ra, 1, pi, qa, od, cl, bs, wt, ab, co, so, fc, fp, sa, lv, sh, hf, su, wi)) :
    ∀ (d b : Nat) (sh : Nat → Int32) (wi : Nat → Int64), b + d = 4 → (∀ n, n < 256 → jp_bn n < b → sh n = jp_sh qu lv n) → wX_decode_121 post (d + 1) (nI b) nq ni qu iv ln ct pr bb bc ra dc pi qa od cl bs wt ab co so fc fp sa lv sh hf su wi := by
  intro d
  induction d with
  | zero =>
    intro b sh wi hb h1
    obtain rfl : b = 4 := by omega
    exact br_t (by decide) (h sh wi (fun n hn => h1 n hn (by unfold jp_bn; omega)))
  | succ d ih =>
    intro b sh wi hb h1
    refine br_f (nI_ge (b := 4) (by omega) (by decide)) (jp_xshowBlock hq hqu q1 q8 (by omega) hL (fun sh' wi' a1 a2 => nm_r (nI_1 b) (ih (b + 1) sh' wi' (by omega) (fun n hn hnb => ?_))))
    by_cases e : jp_bn n = b
    · exact a2 n hn e
    · rw [a1 n hn e]; exact h1 n hn (by omega)
theorem jp_xdecode {post : SX → Prop} {nq ni qu iv ln ct pr bb bc ra dc : Int32} {pi qa od cl bs wt ab co so fc fp sa lv sh hf su : Nat → Int32} {wi : Nat → Int64} (hq : ∀ t, t < 9 → qa t = jp_qI t) (hod : ∀ k, k < 64 → od k = nI (jp_zg k)) {r q Ln : Nat} {L : Nat → Int32} {C N p : Nat → Nat} (hln : ln = nI Ln) (hiv : iv = nI r) (r1 : 1 ≤ r) (r4 : r ≤ 4) (hqu : qu = nI q) (q1 : 1 ≤ q) (q8 : q ≤ 8)
    (hL : ∀ i, i < 256 → jp_ab (L i) ≤ 2048) (hS : jp_Stored r L bs so fc fp sa C N p Ln) (hd : ¬ dc = 0 → (∀ i, i < 256 → lv i = L i) ∧ ∀ n, n < 256 → sh n = jp_sh qu L n)
    (h : ∀ pr' bb' bc' ra' dc' lv' sh' wi', ¬ dc' = 0 → (∀ i, i < 256 → lv' i = L i) → (∀ n, n < 256 → sh' n = jp_sh qu L n) → post (nq, ni, qu, iv, ln, ct, pr', bb', bc', ra', dc', pi, qa, od, cl, bs, wt, ab, co, so, fc, fp, sa, lv', sh', hf, su, wi')) : wpX_decode post (nq, ni, qu, iv, ln, ct, pr, bb, bc, ra, dc, pi, qa, od, cl, bs, wt, ab, co, so, fc, fp, sa, lv, sh, hf, su, wi) := by
  refine br_c (fun z => ⟨257, jp_xde10 (fun lv0 hz => ?_) 256 0 lv rfl (fun i hi => absurd hi (by omega))⟩) (fun z => h pr bb bc ra dc lv sh wi z (hd z).1 (hd z).2)
  have k : ∀ post' : Int32 → Prop, (∀ x2, jp_G r L bs so fc fp sa C N p 0 0 (0 * r) x2 (nI (p 0)) bb 0 0 → post' x2) → wpX_markAt post' (nq, ni, qu, iv, ln, ct, pr, bb, bc, 0, dc, pi, qa, od, cl, bs, wt, ab, co, so, fc, fp, sa, lv0, sh, hf, su, wi) (nI (p 0)) := fun post' h' => jp_xstart hln r1 hS (Nat.zero_le _) h'
  rw [hS.2.1, Nat.zero_mul] at k
  refine k _ (fun x2 hG => ⟨5, ?_⟩)
  have k3 : wX_decode_58 post (4 + 1) (nI (r - 0)) x2 (nI 0) nq ni qu iv ln ct 0 bb 0 (nI 0) dc pi qa od cl bs wt ab co so fc fp sa lv0 sh hf su wi :=
    jp_xde58 hln hiv r1 r4 hS hod hL (fun lv1 ra1 bb1 bc1 pr1 hlv => ⟨5, jp_xde121 hq hqu q1 q8 (fun i hi => by rw [hlv i hi]; exact hL i hi) (fun sh1 wi1 hsh => h pr1 bb1 bc1 ra1 1 lv1 sh1 wi1 (by decide) hlv (fun n hn => by rw [hsh n hn]; exact jp_sh_congr hlv hn)) 4 0 sh wi rfl (fun n hn hb => absurd hb (by omega))⟩) 4 0 0 0 x2 lv0 (nI 0) bb 0 0 rfl (by omega) (by omega) (Nat.zero_le _) hG (fun i hi hb => absurd hb (by omega)) (fun i hi _ => hz i hi)
  rw [Nat.sub_zero, ← hiv] at k3
  exact k3
end
section
/-! weight -/
def jp_nz (L : Nat → Int32) (b k : Nat) : Nat := jp_sN (fun i => if L (64 * b + i) = 0 then 0 else 1) k
theorem jp_nz_y {L : Nat → Int32} {b k : Nat} (h : L (64 * b + k) = 0) : jp_nz L b (k + 1) = jp_nz L b k := by
  unfold jp_nz
  rw [jp_sN, if_pos h]
  rfl
theorem jp_nz_n {L : Nat → Int32} {b k : Nat} (h : ¬ L (64 * b + k) = 0) : jp_nz L b (k + 1) = jp_nz L b k + 1 := by
  unfold jp_nz
  rw [jp_sN, if_neg h]
theorem jp_nz_congr {L L' : Nat → Int32} (h : ∀ i, i < 256 → L i = L' i) {b : Nat} (hb : b < 4) : jp_nz L b 64 = jp_nz L' b 64 := by
  unfold jp_nz
  apply jp_sN_congr
  intro i hi
  rw [h _ (by omega)]
theorem jp_xwt20 {post : Int32 → SX → Prop} {nq ni qu iv ln ct pr bb bc ra dc : Int32} {pi qa od cl bs wt ab co so fc fp sa lv sh hf su : Nat → Int32} {wi : Nat → Int64} {b : Nat} (hb : b < 4) (h : post (nI (jp_nz lv b 64)) (nq, ni, qu, iv, ln, ct, pr, bb, bc, ra, dc, pi, qa, od, cl, bs, wt, ab, co, so, fc, fp, sa, lv, sh, hf, su, wi)) : ∀ d k : Nat, k + d = 64 → wX_weight_20 post (nI b) nq ni qu iv ln ct pr bb bc ra dc pi qa od cl bs wt ab co so fc fp sa lv sh hf su wi (d + 1) (nI (jp_nz lv b k)) (nI k) := by
  intro d
  induction d with
  | zero =>
    intro k hk
    obtain rfl : k = 64 := by omega
    exact br_t (by decide) h
  | succ d ih =>
    intro k hk
    have e1 : nI b * 64 + nI k = nI (64 * b + k) := by rw [show (64 : Int32) = nI 64 from rfl, pk_mul, nI_add, Nat.mul_comm]
    refine br_f (nI_ge (b := 64) (by omega) (by decide)) ?_
    rw [e1, nI_clamp (by omega)]
    refine ⟨vp_in_nI (by omega) (by decide), br_c (fun z => nm_r (nI_1 k) ?_) (fun z => nm_r (nI_1 _) (nm_r (nI_1 k) ?_))⟩
    · rw [← jp_nz_y z]; exact ih (k + 1) (by omega)
    · rw [← jp_nz_n z]; exact ih (k + 1) (by omega)
theorem jp_xweight {post : Int32 → SX → Prop} {nq ni qu iv ln ct pr bb bc ra dc : Int32} {pi qa od cl bs wt ab co so fc fp sa lv sh hf su : Nat → Int32} {wi : Nat → Int64} (hq : ∀ t, t < 9 → qa t = jp_qI t) (hod : ∀ k, k < 64 → od k = nI (jp_zg k)) {r q Ln b : Nat} {L : Nat → Int32} {C N p : Nat → Nat} (hln : ln = nI Ln) (hiv : iv = nI r) (r1 : 1 ≤ r) (r4 : r ≤ 4) (hqu : qu = nI q) (q1 : 1 ≤ q) (q8 : q ≤ 8)
    (hL : ∀ i, i < 256 → jp_ab (L i) ≤ 2048) (hS : jp_Stored r L bs so fc fp sa C N p Ln) (hd : ¬ dc = 0 → (∀ i, i < 256 → lv i = L i) ∧ ∀ n, n < 256 → sh n = jp_sh qu L n) (hb : b < 4)
    (h : ∀ pr' bb' bc' ra' dc' lv' sh' wi', ¬ dc' = 0 → (∀ i, i < 256 → lv' i = L i) → (∀ n, n < 256 → sh' n = jp_sh qu L n) → post (nI (jp_nz L b 64)) (nq, ni, qu, iv, ln, ct, pr', bb', bc', ra', dc', pi, qa, od, cl, bs, wt, ab, co, so, fc, fp, sa, lv', sh', hf, su, wi')) : wpX_weight post (nq, ni, qu, iv, ln, ct, pr, bb, bc, ra, dc, pi, qa, od, cl, bs, wt, ab, co, so, fc, fp, sa, lv, sh, hf, su, wi) (nI b) := by
  refine br_f (nI_pos (by omega)) (br_t (nI_le (b := 3) (by omega) (by decide)) (jp_xdecode hq hod hln hiv r1 r4 hqu q1 q8 hL hS hd (fun pr' bb' bc' ra' dc' lv' sh' wi' h1 h2 h3 => ⟨65, jp_xwt20 hb ?_ 64 0 rfl⟩)))
  rw [jp_nz_congr h2 hb]
  exact h pr' bb' bc' ra' dc' lv' sh' wi' h1 h2 h3
/-! tokens of equal levels -/
theorem jp_tk_congr {f g : Nat → Int32} (h : ∀ k, k < 64 → f k = g k) : ∀ d k r : Nat, k + d = 64 → jp_tk f d k r = jp_tk g d k r
  | 0, _, _, _ => rfl
  | d + 1, k, r, hk => by
    rw [jp_tk, jp_tk, h k (by omega), jp_tk_congr h d (k + 1) (r + 1) (by omega), jp_tk_congr h d (k + 1) 0 (by omega)]
theorem jp_bk_congr {L L' : Nat → Int32} (h : ∀ i, i < 256 → L i = L' i) {r b : Nat} (hb : b < 4) : jp_bk r L b = jp_bk r L' b := by
  have e : ∀ k, k < 64 → L (64 * b + jp_zg k) = L' (64 * b + jp_zg k) := fun k hk => h _ (by have := jp_zg_lt k hk; omega)
  unfold jp_bk jp_bt
  rw [jp_tk_congr e 63 1 0 rfl]
  dsimp only
  rw [e 0 (by decide), h (64 * (b - 1)) (by omega)]
theorem jp_sg_congr {L L' : Nat → Int32} (h : ∀ i, i < 256 → L i = L' i) {r : Nat} : ∀ d b : Nat, b + d ≤ 4 → jp_sg r L b d = jp_sg r L' b d
  | 0, _, _ => rfl
  | d + 1, b, hb => by rw [jp_sg, jp_sg, jp_bk_congr h (by omega), jp_sg_congr h d (b + 1) (by omega)]
theorem jp_TS_congr {L L' : Nat → Int32} (h : ∀ i, i < 256 → L i = L' i) {r s : Nat} (hs : s * r < 4) : jp_TS r L s = jp_TS r L' s := jp_sg_congr h _ _ (by omega)
theorem jp_Stored_congr {L L' : Nat → Int32} (h : ∀ i, i < 256 → L i = L' i) {r Ln : Nat} {bs so fc fp sa : Nat → Int32} {C N p : Nat → Nat} (r1 : 1 ≤ r) (hS : jp_Stored r L bs so fc fp sa C N p Ln) : jp_Stored r L' bs so fc fp sa C N p Ln := by
  refine ⟨hS.1, hS.2.1, hS.2.2.1, fun s hs => ⟨?_, (hS.2.2.2 s hs).2⟩⟩
  obtain ⟨Bs, e, h1, h2, h3, h4, h5⟩ := (hS.2.2.2 s hs).1
  refine ⟨Bs, e, h1, h2, h3, h4, ?_⟩
  rw [← jp_TS_congr h (jp_rs r1 hs)]
  rcases h5 with ⟨k1, k2⟩ | k
  · exact Or.inl ⟨k1, fun i hi hs => by rw [← h i hi]; exact k2 i hi hs⟩
  · exact Or.inr k
theorem jp_TS_to {r s : Nat} {L : Nat → Int32} (r1 : 1 ≤ r) (hL : ∀ i, i < 256 → jp_ab (L i) ≤ 2048) (hs : s * r < 4) : ∀ t ∈ jp_TS r L s, jp_to t := by
  have key : ∀ d b, b + d ≤ 4 → ∀ t ∈ jp_sg r L b d, jp_to t := by
    intro d
    induction d with
    | zero => intro b _ t ht; exact absurd ht List.not_mem_nil
    | succ d ih =>
      intro b hb t ht
      rw [jp_sg] at ht
      rcases List.mem_append.mp ht with q | q
      · have hp : jp_ab (if b % r = 0 then 0 else L (64 * (b - 1))) ≤ 2048 := by
          split
          · rw [jp_ab0]; omega
          · exact hL _ (by omega)
        have hz : jp_ab (L (64 * b + jp_zg 0)) ≤ 2048 := hL _ (by rw [jp_zg_0]; omega)
        exact jp_bt_ok (f := fun k => L (64 * b + jp_zg k)) (p := if b % r = 0 then 0 else L (64 * (b - 1))) (fun k hk => by
          have := jp_zg_lt k hk
          have := hL (64 * b + jp_zg k) (by omega)
          omega) (jp_abd hz hp) t q
      · exact ih (b + 1) (by omega) t q
  exact key _ _ (by omega)
/-! the last loop of store -/
theorem jp_xst128 {post : Int32 → SX → Prop} {nq ni qu iv ln ct : Int32} {pi qa od cl bs wt ab co so fc fp sa hf su : Nat → Int32} (hq : ∀ t, t < 9 → qa t = jp_qI t) (hod : ∀ k, k < 64 → od k = nI (jp_zg k)) {r q Ln : Nat} {L : Nat → Int32} {C N p : Nat → Nat} (hln : ln = nI Ln) (hiv : iv = nI r) (r1 : 1 ≤ r) (r4 : r ≤ 4) (hqu : qu = nI q) (q1 : 1 ≤ q) (q8 : q ≤ 8)
    (hL : ∀ i, i < 256 → jp_ab (L i) ≤ 2048) (hS : jp_Stored r L bs so fc fp sa C N p Ln)
    (h : ∀ pr bb bc ra dc lv sh wi, (¬ dc = 0 → (∀ i, i < 256 → lv i = L i) ∧ ∀ n, n < 256 → sh n = jp_sh qu L n) → post (nI (jp_sN (fun b => jp_nz L b 64) 4)) (nq, ni, qu, iv, ln, ct, pr, bb, bc, ra, dc, pi, qa, od, cl, bs, wt, ab, co, so, fc, fp, sa, lv, sh, hf, su, wi)) :
    ∀ (d b : Nat) (pr bb bc ra dc : Int32) (lv sh : Nat → Int32) (wi : Nat → Int64), b + d = 4 → (¬ dc = 0 → (∀ i, i < 256 → lv i = L i) ∧ ∀ n, n < 256 → sh n = jp_sh qu L n) → wX_store_128 post (d + 1) (nI (jp_sN (fun b => jp_nz L b 64) b)) (nI b) nq ni qu iv ln ct pr bb bc ra dc pi qa od cl bs wt ab co so fc fp sa lv sh hf su wi := by
  intro d
  induction d with
  | zero =>
    intro b pr bb bc ra dc lv sh wi hb hd
    obtain rfl : b = 4 := by omega
    exact br_t (by decide) (h pr bb bc ra dc lv sh wi hd)
  | succ d ih =>
    intro b pr bb bc ra dc lv sh wi hb hd
    exact br_f (nI_ge (b := 4) (by omega) (by decide)) (jp_xweight hq hod hln hiv r1 r4 hqu q1 q8 hL hS hd (by omega) (fun pr bb bc ra dc lv sh wi h1 h2 h3 => nm_r (e' := nI (jp_sN (fun b => jp_nz L b 64) (b + 1))) (nI_add _ _) (nm_r (nI_1 b) (ih (b + 1) pr bb bc ra dc lv sh wi (by omega) (fun _ => ⟨h2, h3⟩)))))
/-- from the codes and what was written to what is stored -/
def jp_N2 (l1 l2 : Nat → Nat) (k : Nat) : Nat := if k < 256 then l1 k else l2 k
def jp_C2 (l1 l2 : Nat → Nat) (k : Nat) : Nat := if k < 256 then jp_C l1 0 256 (l1 k) + jp_ct l1 0 (l1 k) k else jp_C l2 256 272 (l2 k) + jp_ct l2 256 (l2 k) k
theorem jp_Kw_end {C N : Nat → Nat} {r m : Nat} {lv wt bs so fc fp sa : Nat → Int32} {ln bb bc : Int32} (r1 : 1 ≤ r) (hm : m ≤ 256) (hK : jp_Kw C N (jp_TS r lv) (3 / r + 1) m [] wt ln bb bc bs) (hok : ∀ s, s < 3 / r + 1 → ∀ t ∈ jp_TS r lv s, jp_Ok so fc fp sa C N t) :
    ∃ p Ln, ln = nI Ln ∧ jp_Stored r lv bs so fc fp sa C N p Ln := by
  obtain ⟨p, T, h1, h2, h3, h4, L, v, c, rfl, _, _, ⟨Bs, k1, k2, k3, k4⟩, w5, w6, w7⟩ := hK
  have z := congrArg List.length k2
  rw [List.length_append, jp_bo_len, jp_lb_len] at z
  have z0 : (jp_tb C N []).length = 0 := rfl
  have k1 : p (3 / r + 1) = L := by
    cases Bs with
    | nil => exact k1
    | cons B t => rw [List.length_cons] at z; omega
  refine ⟨p, L, rfl, by omega, h1, k1, fun s hs => ⟨?_, by have := (h4 s (by omega)).2; omega⟩⟩
  obtain ⟨Bs, e, π, a1, a2, a3, a4, a5, a6⟩ := (h4 s (by omega)).1
  exact ⟨Bs, e, a1, a2, a3, a4, Or.inr ⟨π, a5, a6, hok s (by omega)⟩⟩
end
section
/-! store -/
theorem jp_codes {l1 l2 : Nat → Nat} {co0 so0 fc0 fp0 sa0 co1 so1 fc1 fp1 sa1 co2 so2 fc2 fp2 sa2 : Nat → Int32}
    (K1 : jp_sN (fun k => if 0 ≤ k ∧ 1 ≤ l1 k then 2 ^ (16 - l1 k) else 0) 256 ≤ 65536) (K2 : jp_sN (fun k => if 256 ≤ k ∧ 1 ≤ l2 k then 2 ^ (16 - l2 k) else 0) 272 ≤ 65536)
    (b1 : ∀ k, k < 256 → l1 k ≤ 11) (b2 : ∀ k, 256 ≤ k → k < 272 → l2 k ≤ 11)
    (m1 : jp_M1 l1 0 256 17 0 co1 so1 co0 so0) (m2 : jp_M2 l1 0 256 0 17 fc1 fp1 sa1 fc0 fp0 sa0) (n1 : jp_M1 l2 256 272 17 256 co2 so2 co1 so1) (n2 : jp_M2 l2 256 272 1 17 fc2 fp2 sa2 fc1 fp1 sa1) :
    ∀ k, k < 272 → 1 ≤ jp_N2 l1 l2 k → (co2 k = nI (jp_C2 l1 l2 k) ∧ jp_C2 l1 l2 k < 2 ^ 31) ∧ jp_Cw so2 fc2 fp2 sa2 (if k < 256 then 0 else 1) k (jp_N2 l1 l2 k) (jp_C2 l1 l2 k) := by
  intro k hk h1
  by_cases h : k < 256
  · have eN : jp_N2 l1 l2 k = l1 k := if_pos h
    have eC : jp_C2 l1 l2 k = jp_C l1 0 256 (l1 k) + jp_ct l1 0 (l1 k) k := if_pos h
    rw [eN] at h1 ⊢
    rw [eC, if_pos h]
    have lb := b1 k h
    obtain ⟨a1, a2⟩ := m1.1 k (by omega) h h1 (by omega)
    have c1 := jp_C_big K1 h1 (by omega)
    have c2 := jp_ct_lt (l := l1) (n := l1 k) (Nat.zero_le k) rfl h
    have c3 := jp_P_to (l := l1) (Nat.zero_le 256) h1
    refine ⟨⟨?_, by omega⟩, ?_⟩
    · rw [(n1.2 k (by omega)).1]; exact a1
    · refine jp_Cw_of (t := 0) (by decide) (by decide) K1 (fun m h1 h2 => ?_) (Nat.zero_le _) h h1 (by omega) ?_
      · have q := n2.2 (0 * 17 + m) (by omega)
        rw [q.1, q.2.1, q.2.2]
        exact m2.1 m h1 (by omega)
      · rw [(n1.2 _ (by omega)).2]; exact a2
  · have eN : jp_N2 l1 l2 k = l2 k := if_neg h
    have eC : jp_C2 l1 l2 k = jp_C l2 256 272 (l2 k) + jp_ct l2 256 (l2 k) k := if_neg h
    rw [eN] at h1 ⊢
    rw [eC, if_neg h]
    have lb := b2 k (by omega) hk
    obtain ⟨a1, a2⟩ := n1.1 k (by omega) hk h1 (by omega)
    have c1 := jp_C_big K2 h1 (by omega)
    have c2 := jp_ct_lt (l := l2) (n := l2 k) (show 256 ≤ k by omega) rfl hk
    exact ⟨⟨a1, by omega⟩, jp_Cw_of (t := 1) (by decide) (by decide) K2 (fun m h1 h2 => n2.1 m h1 (by omega)) (by omega) hk h1 (by omega) a2⟩
theorem jp_xst36e {post : Int32 → SX → Prop} {nq ni qu iv ln ct pr bb bc ra dc : Int32} {pi qa od cl bs wt ab co so fc fp sa lv sh hf su : Nat → Int32} {wi : Nat → Int64} (hq : ∀ t, t < 9 → qa t = jp_qI t) (hod : ∀ k, k < 64 → od k = nI (jp_zg k)) {r q : Nat} (hiv : iv = nI r) (r1 : 1 ≤ r) (r4 : r ≤ 4) (hqu : qu = nI q) (q1 : 1 ≤ q) (q8 : q ≤ 8)
    (hL : ∀ i, i < 256 → jp_ab (lv i) ≤ 2048) (hw : ∀ k, k < 272 → wt k = 0)
    (h : ∀ ln' ct' pr' bb' bc' ra' dc' cl' bs' wt' ab' co' so' fc' fp' sa' lv' sh' wi' C N p Ln, ln' = nI Ln → jp_Stored r lv bs' so' fc' fp' sa' C N p Ln → (¬ dc' = 0 → (∀ i, i < 256 → lv' i = lv i) ∧ ∀ n, n < 256 → sh' n = jp_sh qu lv n) →
      post (nI (jp_sN (fun b => jp_nz lv b 64) 4)) (nq, ni, qu, iv, ln', ct', pr', bb', bc', ra', dc', pi, qa, od, cl', bs', wt', ab', co', so', fc', fp', sa', lv', sh', hf, su, wi')) :
    wX_store_36 post nq ni qu iv ln ct pr bb bc ra dc 1 272 pi qa od cl bs wt ab co so fc fp sa lv sh hf su wi := by
  refine br_t (by decide) ?_
  refine jp_xwriteAll (K := jp_Kc (jp_TS r lv)) (Or.inr rfl) (jp_Kc_s (by decide)) (jp_Kc_e (by decide)) hiv r1 r4 hod hL ⟨fun _ => 0, fun k hk => hw k hk, by rw [jp_sN_zero]; exact Nat.le_refl _, fun s hs => absurd hs (Nat.not_lt_zero _), fun t ht => absurd ht List.not_mem_nil⟩ (fun m wt1 ln1 bb1 bc1 bs1 pr1 hm hK => ?_)
  obtain ⟨w, w1, w2, w3, _⟩ := hK
  refine jp_xmakeLengths (fr := 0) (to := 256) (w := w) (by decide) (by decide) (by decide) w1 (by omega) (fun cl2 wt2 ab2 l1 a1 a2 a3 K1 => ?_)
  refine jp_xmakeLengths (fr := 256) (to := 272) (w := w) (by decide) (by decide) (by decide) a1 (by omega) (fun cl3 wt3 ab3 l2 b1 b2 b3 K2 => ?_)
  have hcl : ∀ k, k < 272 → cl3 k = nI (jp_N2 l1 l2 k) ∧ jp_N2 l1 l2 k ≤ 15 := by
    intro k hk
    by_cases z : k < 256
    · rw [show jp_N2 l1 l2 k = l1 k from if_pos z, b2 k hk (by omega), (a3 k (by omega) z).1]
      exact ⟨rfl, by have := (a3 k (by omega) z).2.2; omega⟩
    · rw [show jp_N2 l1 l2 k = l2 k from if_neg z, (b3 k (by omega) hk).1]
      exact ⟨rfl, by have := (b3 k (by omega) hk).2.2; omega⟩
  refine jp_xmakeCodes (fr := 0) (to := 256) (t := 0) (l := l1) (by decide) (by decide) (by decide) K1 (fun k k1 k2 => ⟨by rw [b2 k (by omega) (by omega)]; exact (a3 k k1 k2).1, by have := (a3 k k1 k2).2.2; omega⟩) (fun co4 so4 fc4 fp4 sa4 m1 m2 => ?_)
  refine jp_xmakeCodes (fr := 256) (to := 272) (t := 1) (l := l2) (by decide) (by decide) (by decide) K2 (fun k k1 k2 => ⟨(b3 k k1 k2).1, by have := (b3 k k1 k2).2.2; omega⟩) (fun co5 so5 fc5 fp5 sa5 n1 n2 => ?_)
  have cd := jp_codes K1 K2 (fun k hk => (a3 k (by omega) hk).2.2) (fun k k1 k2 => (b3 k k1 k2).2.2) m1 m2 n1 n2
  refine jp_xwriteAll (K := jp_Kw (jp_C2 l1 l2) (jp_N2 l1 l2) (jp_TS r lv)) (Or.inl rfl) (jp_Kw_s rfl hcl (fun k hk h1 => (cd k hk h1).1)) (jp_Kw_e rfl) hiv r1 r4 hod hL ⟨fun _ => 0, 0, rfl, by omega, by omega, fun s hs => absurd hs (Nat.not_lt_zero _), 0, 0, 0, rfl, rfl, rfl, jp_WR_0, Nat.le_refl _, Nat.le_refl _, fun _ _ => rfl⟩ (fun m6 wt6 ln6 bb6 bc6 bs6 pr6 hm6 hK6 => ?_)
  obtain ⟨p, Ln, eln, hS⟩ := jp_Kw_end (so := so5) (fc := fc5) (fp := fp5) (sa := sa5) r1 hm6 hK6 (fun s hs t ht => by
    have t0 := jp_TS_to r1 hL (jp_rs r1 (show s ≤ 3 / r by omega)) t ht
    have tw := w3 s hs t ht
    refine ⟨(cd t.1 t0.1 ?_).2, t0.2⟩
    by_cases z : t.1 < 256
    · rw [show jp_N2 l1 l2 t.1 = l1 t.1 from if_pos z]
      exact (a3 t.1 (by omega) z).2.1 tw
    · rw [show jp_N2 l1 l2 t.1 = l2 t.1 from if_neg z]
      exact (b3 t.1 (by omega) t0.1).2.1 tw)
  exact ⟨5, jp_xst128 hq hod eln hiv r1 r4 hqu q1 q8 hL hS (fun pr bb bc ra dc lv' sh' wi' hd => h ln6 0 pr bb bc ra dc cl3 bs6 wt6 ab3 co5 so5 fc5 fp5 sa5 lv' sh' wi' _ _ p Ln eln hS hd) 4 0 pr6 bb6 bc6 ra 0 lv sh wi rfl (fun z => absurd rfl z)⟩
theorem jp_xst36 {post : Int32 → SX → Prop} {nq ni qu iv ln ct pr bb bc ra dc : Int32} {pi qa od cl bs ab co so fc fp sa lv sh hf su : Nat → Int32} {wi : Nat → Int64} (hq : ∀ t, t < 9 → qa t = jp_qI t) (hod : ∀ k, k < 64 → od k = nI (jp_zg k)) {r q : Nat} (hiv : iv = nI r) (r1 : 1 ≤ r) (r4 : r ≤ 4) (hqu : qu = nI q) (q1 : 1 ≤ q) (q8 : q ≤ 8)
    (hL : ∀ i, i < 256 → jp_ab (lv i) ≤ 2048)
    (h : ∀ ln' ct' pr' bb' bc' ra' dc' cl' bs' wt' ab' co' so' fc' fp' sa' lv' sh' wi' C N p Ln, ln' = nI Ln → jp_Stored r lv bs' so' fc' fp' sa' C N p Ln → (¬ dc' = 0 → (∀ i, i < 256 → lv' i = lv i) ∧ ∀ n, n < 256 → sh' n = jp_sh qu lv n) →
      post (nI (jp_sN (fun b => jp_nz lv b 64) 4)) (nq, ni, qu, iv, ln', ct', pr', bb', bc', ra', dc', pi, qa, od, cl', bs', wt', ab', co', so', fc', fp', sa', lv', sh', hf, su, wi')) :
    ∀ (d x : Nat) (wt : Nat → Int32), x + d = 272 → (∀ k, k < x → wt k = 0) → wX_store_36 post nq ni qu iv ln ct pr bb bc ra dc (d + 1) (nI x) pi qa od cl bs wt ab co so fc fp sa lv sh hf su wi := by
  intro d
  induction d with
  | zero =>
    intro x wt hx h1
    obtain rfl : x = 272 := by omega
    exact jp_xst36e hq hod hiv r1 r4 hqu q1 q8 hL h1 h
  | succ d ih =>
    intro x wt hx h1
    refine br_f (nI_ge (b := 272) (by omega) (by decide)) ⟨vp_in_nI (by omega) (by decide), nm_e (nm_r (nI_1 x) (ih (x + 1) _ (by omega) (fun k hk => ?_)))⟩
    rw [nI_clamp (by omega)]
    by_cases e : k = x
    · rw [e, pk_us]
    · rw [pk_un e]; exact h1 k (by omega)
theorem jp_xst18 {post : Int32 → SX → Prop} {nq ni qu iv ln ct pr bb bc ra dc : Int32} {pi qa od cl bs wt ab co so fc fp sa sh : Nat → Int32} {wi : Nat → Int64} (hq : ∀ t, t < 9 → qa t = jp_qI t) (hod : ∀ k, k < 64 → od k = nI (jp_zg k)) {r q : Nat} (hiv : iv = nI r) (r1 : 1 ≤ r) (r4 : r ≤ 4) (hqu : qu = nI q) (q1 : 1 ≤ q) (q8 : q ≤ 8)
    (hp : ∀ i, i < 256 → 0 ≤ (pi i).toInt ∧ (pi i).toInt ≤ 255)
    (h : ∀ ln' ct' pr' bb' bc' ra' dc' cl' bs' wt' ab' co' so' fc' fp' sa' lv' sh' hf' su' wi' C N p Ln, ln' = nI Ln → jp_Stored r (jp_L pi qu) bs' so' fc' fp' sa' C N p Ln → (¬ dc' = 0 → (∀ i, i < 256 → lv' i = jp_L pi qu i) ∧ ∀ n, n < 256 → sh' n = jp_sh qu (jp_L pi qu) n) →
      post (nI (jp_sN (fun b => jp_nz (jp_L pi qu) b 64) 4)) (nq, ni, qu, iv, ln', ct', pr', bb', bc', ra', dc', pi, qa, od, cl', bs', wt', ab', co', so', fc', fp', sa', lv', sh', hf', su', wi')) :
    ∀ (d b : Nat) (lv hf su : Nat → Int32), b + d = 4 → (∀ m, m < 256 → m / 64 < b → lv m = jp_L pi qu m) → wX_store_18 post (d + 1) (nI b) nq ni qu iv ln ct pr bb bc ra dc pi qa od cl bs wt ab co so fc fp sa lv sh hf su wi := by
  intro d
  induction d with
  | zero =>
    intro b lv hf su hb h1
    obtain rfl : b = 4 := by omega
    have h1 : ∀ m, m < 256 → lv m = jp_L pi qu m := fun m hm => h1 m hm (by omega)
    refine br_t (by decide) ⟨273, jp_xst36 hq hod hiv r1 r4 hqu q1 q8 (fun i hi => ?_) (fun ln' ct' pr' bb' bc' ra' dc' cl' bs' wt' ab' co' so' fc' fp' sa' lv' sh' wi' C N p Ln z1 z2 z3 => ?_) 272 0 wt rfl (fun k hk => absurd hk (by omega))⟩
    · rw [h1 i hi, hqu]
      exact jp_L_bd hp q1 q8 hi
    · have e : jp_sN (fun b => jp_nz lv b 64) 4 = jp_sN (fun b => jp_nz (jp_L pi qu) b 64) 4 := jp_sN_congr fun b hb => jp_nz_congr h1 hb
      rw [e]
      exact h ln' ct' pr' bb' bc' ra' dc' cl' bs' wt' ab' co' so' fc' fp' sa' lv' sh' hf su wi' C N p Ln z1 (jp_Stored_congr h1 r1 z2) (fun z => ⟨fun i hi => ((z3 z).1 i hi).trans (h1 i hi), fun n hn => ((z3 z).2 n hn).trans (jp_sh_congr h1 hn)⟩)
  | succ d ih =>
    intro b lv hf su hb h1
    refine br_f (nI_ge (b := 4) (by omega) (by decide)) (jp_xquantise hq hqu q1 q8 (by omega) (fun lv' hf' su' a1 a2 => nm_r (nI_1 b) (ih (b + 1) lv' hf' su' (by omega) (fun m hm hmb => ?_))))
    by_cases e : m / 64 = b
    · exact a2 m hm e
    · rw [a1 m hm e]; exact h1 m hm (by omega)
theorem jp_xstore {post : Int32 → SX → Prop} {nq ni qu iv ln ct pr bb bc ra dc : Int32} {pi qa od cl bs wt ab co so fc fp sa lv sh hf su : Nat → Int32} {wi : Nat → Int64} (hq : ∀ t, t < 9 → qa t = jp_qI t) (hod : ∀ k, k < 64 → od k = nI (jp_zg k)) {r q : Nat} (hiv : ni = nI r) (r1 : 1 ≤ r) (r4 : r ≤ 4) (hqu : nq = nI q) (q1 : 1 ≤ q) (q8 : q ≤ 8)
    (hp : ∀ i, i < 256 → 0 ≤ (pi i).toInt ∧ (pi i).toInt ≤ 255)
    (h : ∀ ln' ct' pr' bb' bc' ra' dc' cl' bs' wt' ab' co' so' fc' fp' sa' lv' sh' hf' su' wi' C N p Ln, ln' = nI Ln → jp_Stored r (jp_L pi nq) bs' so' fc' fp' sa' C N p Ln → (¬ dc' = 0 → (∀ i, i < 256 → lv' i = jp_L pi nq i) ∧ ∀ n, n < 256 → sh' n = jp_sh nq (jp_L pi nq) n) →
      post (nI (jp_sN (fun b => jp_nz (jp_L pi nq) b 64) 4)) (nq, ni, nq, ni, ln', ct', pr', bb', bc', ra', dc', pi, qa, od, cl', bs', wt', ab', co', so', fc', fp', sa', lv', sh', hf', su', wi')) : wpX_store post (nq, ni, qu, iv, ln, ct, pr, bb, bc, ra, dc, pi, qa, od, cl, bs, wt, ab, co, so, fc, fp, sa, lv, sh, hf, su, wi) :=
  ⟨5, jp_xst18 hq hod hiv r1 r4 hqu q1 q8 hp h 4 0 lv hf su rfl (fun m hm hb => absurd hb (by omega))⟩
end
section
/-! segments -/
theorem jp_xseg4 {post : Int32 → Prop} {nq ni qu iv ln ct pr bb bc ra dc : Int32} {pi qa od cl bs wt ab co so fc fp sa lv sh hf su : Nat → Int32} {wi : Nat → Int64} {r b : Nat} (hiv : iv = nI r) (r1 : 1 ≤ r) (r4 : r ≤ 4) (hb : b < 4) (h : post (nI (b / r))) :
    ∀ d i : Nat, i + d = 4 → wX_segmentOf_4 post (nI b) nq ni qu iv ln ct pr bb bc ra dc pi qa od cl bs wt ab co so fc fp sa lv sh hf su wi (d + 1) (nI (min i (b / r))) (nI i) := by
  have hbr : b / r ≤ b := Nat.div_le_self _ _
  intro d
  induction d with
  | zero =>
    intro i hi
    obtain rfl : i = 4 := by omega
    rw [show min 4 (b / r) = b / r by omega]
    exact br_t (by decide) h
  | succ d ih =>
    intro i hi
    have e : (nI (min i (b / r)) + 1) * iv = nI ((min i (b / r) + 1) * r) := by rw [hiv, nI_1, pk_mul]
    have bd : (min i (b / r) + 1) * r ≤ 4 * 4 := Nat.mul_le_mul (by omega) r4
    refine br_f (nI_ge (b := 4) (by omega) (by decide)) ?_
    rw [e]
    refine pk_lt b ((min i (b / r) + 1) * r) (fun z => nm_r (nI_1 i) ?_) (fun z => nm_r (nI_1 _) (nm_r (nI_1 i) ?_))
    · have := (Nat.div_lt_iff_lt_mul (by omega)).mpr z
      rw [show min i (b / r) = min (i + 1) (b / r) by omega]
      exact ih (i + 1) (by omega)
    · have : ¬ b / r < min i (b / r) + 1 := fun q => by
        have := (Nat.div_lt_iff_lt_mul (by omega)).mp q
        omega
      rw [show min i (b / r) + 1 = min (i + 1) (b / r) by omega]
      exact ih (i + 1) (by omega)
theorem jp_xsegmentOf {post : Int32 → Prop} {nq ni qu iv ln ct pr bb bc ra dc : Int32} {pi qa od cl bs wt ab co so fc fp sa lv sh hf su : Nat → Int32} {wi : Nat → Int64} {r b : Nat} (hiv : iv = nI r) (r1 : 1 ≤ r) (r4 : r ≤ 4) (hb : b < 4) (h : post (nI (b / r))) : wpX_segmentOf post (nq, ni, qu, iv, ln, ct, pr, bb, bc, ra, dc, pi, qa, od, cl, bs, wt, ab, co, so, fc, fp, sa, lv, sh, hf, su, wi) (nI b) := by
  have k := jp_xseg4 (nq := nq) (ni := ni) (qu := qu) (iv := iv) (ln := ln) (ct := ct) (pr := pr) (bb := bb) (bc := bc) (ra := ra) (dc := dc) (pi := pi) (qa := qa) (od := od) (cl := cl) (bs := bs) (wt := wt) (ab := ab) (co := co) (so := so) (fc := fc) (fp := fp) (sa := sa) (lv := lv) (sh := sh) (hf := hf) (su := su) (wi := wi) hiv r1 r4 hb h 4 0 rfl
  rw [Nat.zero_min] at k
  exact ⟨5, k⟩
/-! marks -/
theorem jp_p_mono {r Ln : Nat} {L bs so fc fp sa : Nat → Int32} {C N p : Nat → Nat} (hS : jp_Stored r L bs so fc fp sa C N p Ln) : ∀ d t : Nat, t + d ≤ 3 / r + 1 → p t + 2 * d ≤ p (t + d)
  | 0, _, _ => Nat.le_refl _
  | d + 1, t, h => by
    have a := jp_p_mono hS d t (by omega)
    obtain ⟨Bs, e, h1, h2, _⟩ := (hS.2.2.2 (t + d) (by omega)).1
    have := jp_St_le h2
    rw [show t + (d + 1) = t + d + 1 by omega]
    omega
theorem jp_nomark {r Ln : Nat} {L bs so fc fp sa : Nat → Int32} {C N p : Nat → Nat} (r1 : 1 ≤ r) (hS : jp_Stored r L bs so fc fp sa C N p Ln) {t a : Nat} (ht : t ≤ 3 / r) (h1 : p t ≤ a + 1) (h2 : a + 2 < p (t + 1)) : ¬ (bs a = 255 ∧ ¬ bs (a + 1) < 208) := by
  rintro ⟨z1, z2⟩
  by_cases h : p t ≤ a
  · obtain ⟨Bs, e, k1, k2, _⟩ := (hS.2.2.2 t ht).1
    have := jp_St_nomark k2 h (by omega) z1
    rw [this] at z2
    exact z2 (by decide)
  · cases t with
    | zero => have := hS.2.1; omega
    | succ t =>
      obtain ⟨Bs, e, k1, k2, k3, k4, _⟩ := (hS.2.2.2 t (by omega)).1
      have q : t ≤ t * r := Nat.le_mul_of_pos_right t (by omega)
      have q2 := jp_rs r1 (show t ≤ 3 / r by omega)
      rw [show a = e + 1 by omega, k4] at z1
      have := (nI_eq (a := 208 + t) (b := 255) (by omega) (by decide)).mp z1
      omega
theorem jp_ismark {r Ln : Nat} {L bs so fc fp sa : Nat → Int32} {C N p : Nat → Nat} (r1 : 1 ≤ r) (hS : jp_Stored r L bs so fc fp sa C N p Ln) {t : Nat} (ht : t ≤ 3 / r) : bs (p (t + 1) - 2) = 255 ∧ ¬ bs (p (t + 1) - 2 + 1) < 208 ∧ p t + 2 ≤ p (t + 1) := by
  obtain ⟨Bs, e, k1, k2, k3, k4, _⟩ := (hS.2.2.2 t ht).1
  have q : t ≤ t * r := Nat.le_mul_of_pos_right t (by omega)
  have q2 := jp_rs r1 ht
  have := jp_St_le k2
  rw [k1, Nat.add_sub_cancel, k4]
  exact ⟨k3, nI_nlt (b := 208) (by omega) (by omega), by omega⟩
theorem jp_xlo70 {post : Int32 → SX → Prop} {nq ni qu iv ln ct pr bb bc ra dc : Int32} {pi qa od cl bs wt ab co so fc fp sa lv sh hf su : Nat → Int32} {wi : Nat → Int64} {x3 : Int32} {r g Ln : Nat} {L : Nat → Int32} {C N p : Nat → Nat} (hln : ln = nI Ln) (r1 : 1 ≤ r) (hS : jp_Stored r L bs so fc fp sa C N p Ln) (hg : g ≤ 3 / r)
    (hex : ∃ n141, wX_lose_141 post x3 (nI (p (g + 1) - 2 - p g)) nq ni qu iv ln ct pr bb bc ra dc n141 (nI (p (g + 1) - 2)) pi qa od cl bs wt ab co so fc fp sa lv sh hf su wi) :
    ∀ n a t f : Nat, t ≤ g → p t ≤ a + 1 → a + 2 ≤ p (t + 1) → (t = g → f = p g) → Ln < n + a → wX_lose_70 post (nI g) x3 nq ni qu iv ln ct pr bb bc ra dc pi qa od cl bs wt ab co so fc fp sa lv sh hf su wi n (nI f) 0 (nI t) (nI a) := by
  have hL := hS.1
  have hg3 : g ≤ 3 := by
    have : 3 / r ≤ 3 := Nat.div_le_self _ _
    omega
  intro n
  induction n with
  | zero =>
    intro a t f h1 h2 h3 h4 h5
    have := (hS.2.2.2 t (by omega)).2
    omega
  | succ n ih =>
    intro a t f h1 h2 h3 h4 h5
    have hle := (hS.2.2.2 t (by omega)).2
    obtain ⟨m1, m2, m3⟩ := jp_ismark r1 hS (show t ≤ 3 / r by omega)
    rw [wX_lose_70, hln]
    refine br_f (nI_ge (by omega) (by omega)) (br_f (nI_nlt h1 (by omega)) ?_)
    refine jp_xmark (Ln := Ln) rfl hL (by omega) (fun z1 z2 => ?_) (fun z => ?_)
    · by_cases e : a + 2 = p (t + 1)
      · refine br_f (by decide) (nm_r (nI_1 t) (pk_eq (t + 1) g (fun q => ?_) (fun q => ?_)))
        · refine nm_r (e' := nI (a + 2)) (nI_add a 2) (nm_r (nI_1 a) ?_)
          rw [← hln]
          have m4 := (jp_ismark r1 hS (show t + 1 ≤ 3 / r by omega)).2.2
          exact ih (a + 1) (t + 1) (a + 2) (by omega) (by omega) (by omega) (fun _ => by rw [← q]; exact e) (by omega)
        · rw [nI_1]
          refine pk_eq (t + 1) (g + 1) (fun q2 => nm_r (nI_1 a) ?_) (fun q2 => nm_r (nI_1 a) ?_)
          · obtain rfl : t = g := by omega
            obtain ⟨n, rfl⟩ : ∃ m, n = m + 1 := ⟨n - 1, by omega⟩
            rw [wX_lose_70]
            refine br_f (nI_ge (by omega) (by omega)) (br_t (nI_lt (by omega) (by omega)) ?_)
            rw [h4 rfl, show a = p (t + 1) - 2 by omega, ← hln]
            exact nm_r (pk_sub (by omega)) hex
          · rw [← hln]
            have m4 := (jp_ismark r1 hS (show t + 1 ≤ 3 / r by omega)).2.2
            exact ih (a + 1) (t + 1) f (by omega) (by omega) (by omega) (fun z => absurd z q) (by omega)
      · exact absurd ⟨z1, z2⟩ (jp_nomark r1 hS (show t ≤ 3 / r by omega) h2 (by omega))
    · by_cases e : a + 2 = p (t + 1)
      · exfalso
        rw [← e, Nat.add_sub_cancel] at m1 m2
        exact z ⟨m1, m2⟩
      · refine br_t rfl (nm_r (nI_1 a) ?_)
        rw [← hln]
        exact ih (a + 1) t f h1 (by omega) (by omega) h4 (by omega)
theorem jp_xlo141 {post : Int32 → SX → Prop} {bs0 : Nat → Int32} {nq ni qu iv ln ct pr bb bc ra dc : Int32} {pi qa od cl wt ab co so fc fp sa lv sh hf su : Nat → Int32} {wi : Nat → Int64} {x3 : Int32} {Ln G E : Nat} (hln : ln = nI Ln) (hL : Ln ≤ 1900) (hG : G ≤ E) (hE : E ≤ Ln)
    (h : ∀ bs, (∀ j, j < E - G → bs j = bs0 j) → (∀ j, E - G ≤ j → j < Ln - G → bs j = bs0 (j + G)) → post x3 (nq, ni, qu, iv, nI (Ln - G), ct, pr, bb, bc, ra, 0, pi, qa, od, cl, bs, wt, ab, co, so, fc, fp, sa, lv, sh, hf, su, wi)) :
    ∀ (d x : Nat) (bs : Nat → Int32), x + d = Ln → E ≤ x → (∀ j, j < E - G → bs j = bs0 j) → (∀ j, E - G ≤ j → j < x - G → bs j = bs0 (j + G)) → (∀ j, x ≤ j → bs j = bs0 j) → wX_lose_141 post x3 (nI G) nq ni qu iv ln ct pr bb bc ra dc (d + 1) (nI x) pi qa od cl bs wt ab co so fc fp sa lv sh hf su wi := by
  intro d
  induction d with
  | zero =>
    intro x bs hx hEx h1 h2 h3
    obtain rfl : x = Ln := by omega
    rw [wX_lose_141, hln]
    exact br_t (nI_le (Nat.le_refl _) (by omega)) (nm_r (pk_sub (by omega)) (h bs h1 h2))
  | succ d ih =>
    intro x bs hx hEx h1 h2 h3
    refine br_f (by rw [hln]; exact nI_ge (by omega) (by omega)) ?_
    rw [pk_sub (by omega), nI_clamp (by omega), nI_clamp (by omega)]
    refine ⟨vp_in_nI (by omega) (by decide), vp_in_nI (by omega) (by decide), nm_e (nm_r (nI_1 x) (ih (x + 1) _ (by omega) (by omega) (fun j hj => ?_) (fun j hj hj2 => ?_) (fun j hj => ?_)))⟩
    · rw [pk_un (by omega)]; exact h1 j hj
    · by_cases e : j = x - G
      · rw [e, pk_us, h3 x (Nat.le_refl _), show x - G + G = x by omega]
      · rw [pk_un e]; exact h2 j hj (by omega)
    · rw [pk_un (by omega)]; exact h3 j (by omega)
/-! what is stored when a segment is lost -/
theorem jp_bk_congr2 {L L' : Nat → Int32} {r b : Nat} (r1 : 1 ≤ r) (h : ∀ i, i < 256 → i / 64 / r = b / r → L i = L' i) (hb : b < 4) : jp_bk r L b = jp_bk r L' b := by
  have e : ∀ k, k < 64 → L (64 * b + jp_zg k) = L' (64 * b + jp_zg k) := fun k hk => by
    have := jp_zg_lt k hk
    exact h _ (by omega) (by rw [show (64 * b + jp_zg k) / 64 = b by omega])
  have e2 : (if b % r = 0 then 0 else L (64 * (b - 1))) = (if b % r = 0 then 0 else L' (64 * (b - 1))) := by
    by_cases z : b % r = 0
    · rw [if_pos z, if_pos z]
    · rw [if_neg z, if_neg z]
      refine h _ (by omega) ?_
      rw [show 64 * (b - 1) / 64 = b - 1 by omega]
      have a := Nat.div_add_mod b r
      have c := Nat.mod_lt b (show 0 < r by omega)
      have m : b - 1 = r * (b / r) + (b % r - 1) := by omega
      rw [m, Nat.mul_add_div (by omega), Nat.div_eq_of_lt (a := b % r - 1) (by omega), Nat.add_zero]
  unfold jp_bk jp_bt
  rw [jp_tk_congr e 63 1 0 rfl, e2]
  dsimp only
  rw [e 0 (by decide)]
theorem jp_sg_congr2 {L L' : Nat → Int32} {r s : Nat} (r1 : 1 ≤ r) (h : ∀ i, i < 256 → i / 64 / r = s → L i = L' i) : ∀ d b : Nat, b + d ≤ 4 → s * r ≤ b → b + d ≤ s * r + r → jp_sg r L b d = jp_sg r L' b d
  | 0, _, _, _, _ => rfl
  | d + 1, b, hb, h1, h2 => by
    have e : b / r = s := by
      rw [Nat.div_eq_iff (by omega)]
      omega
    rw [jp_sg, jp_sg, jp_bk_congr2 r1 (fun i hi q => h i hi (q.trans e)) (by omega), jp_sg_congr2 r1 h d (b + 1) (by omega) (by omega) (by omega)]
theorem jp_TS_congr2 {L L' : Nat → Int32} {r s : Nat} (r1 : 1 ≤ r) (hs : s * r < 4) (h : ∀ i, i < 256 → i / 64 / r = s → L i = L' i) : jp_TS r L s = jp_TS r L' s :=
  jp_sg_congr2 r1 h _ _ (by omega) (Nat.le_refl _) (by omega)
theorem jp_Stored_lose {r g Ln : Nat} {L L' bs bs' so fc fp sa : Nat → Int32} {C N p : Nat → Nat} (r1 : 1 ≤ r) (hS : jp_Stored r L bs so fc fp sa C N p Ln) (hg : g ≤ 3 / r)
    (hL0 : ∀ i, i < 256 → i / 64 / r = g → L' i = 0) (hL1 : ∀ i, i < 256 → i / 64 / r ≠ g → L' i = L i)
    (h1 : ∀ j, j < p g → bs' j = bs j) (h2 : ∀ j, p g ≤ j → j < Ln - (p (g + 1) - 2 - p g) → bs' j = bs (j + (p (g + 1) - 2 - p g))) :
    ∃ p', jp_Stored r L' bs' so fc fp sa C N p' (Ln - (p (g + 1) - 2 - p g)) := by
  obtain ⟨_, _, m3⟩ := jp_ismark r1 hS hg
  have gl := (hS.2.2.2 g hg).2
  generalize hG : p (g + 1) - 2 - p g = G at *
  obtain ⟨p', hp⟩ : ∃ p' : Nat → Nat, ∀ t, p' t = if t ≤ g then p t else p t - G := ⟨_, fun _ => rfl⟩
  have pl : ∀ t, t ≤ g → p' t = p t := fun t ht => by rw [hp, if_pos ht]
  have ph : ∀ t, g < t → p' t = p t - G := fun t ht => by rw [hp, if_neg (by omega)]
  refine ⟨p', by have := hS.1; omega, by rw [pl 0 (Nat.zero_le _)]; exact hS.2.1, by rw [ph _ (by omega), hS.2.2.1], fun s hs => ?_⟩
  obtain ⟨⟨Bs, e, k1, k2, k3, k4, k5⟩, k6⟩ := hS.2.2.2 s hs
  have kle := jp_St_le k2
  rcases Nat.lt_trichotomy s g with z | z | z
  · rw [pl s (by omega), pl (s + 1) (by omega)]
    have mo := jp_p_mono hS (g - (s + 1)) (s + 1) (by omega)
    rw [show s + 1 + (g - (s + 1)) = g by omega] at mo
    refine ⟨⟨Bs, e, k1, jp_St_cong k2 fun i _ hi => h1 i (by omega), by rw [h1 e (by omega)]; exact k3, by rw [h1 (e + 1) (by omega)]; exact k4, ?_⟩, by omega⟩
    rw [← jp_TS_congr2 (L := L) (L' := L') r1 (jp_rs r1 hs) (fun i hi q => (hL1 i hi (by omega)).symm)]
    rcases k5 with ⟨q1, q2⟩ | q
    · exact Or.inl ⟨q1, fun i hi q => by rw [hL1 i hi (by omega)]; exact q2 i hi q⟩
    · exact Or.inr q
  · subst z
    rw [pl s (Nat.le_refl _), ph (s + 1) (by omega)]
    refine ⟨⟨[], p s, by omega, rfl, ?_, ?_, Or.inl ⟨rfl, hL0⟩⟩, by omega⟩
    · rw [h2 (p s) (by omega) (by omega), show p s + G = e by omega]; exact k3
    · rw [h2 (p s + 1) (by omega) (by omega), show p s + 1 + G = e + 1 by omega]; exact k4
  · rw [ph s z, ph (s + 1) (by omega)]
    have mo := jp_p_mono hS (s - (g + 1)) (g + 1) (by omega)
    rw [show g + 1 + (s - (g + 1)) = s by omega] at mo
    have sft : ∀ i, p s ≤ i → i < e + 2 → bs' (i - G) = bs i := fun i hi hi2 => by
      rw [h2 (i - G) (by omega) (by omega), show i - G + G = i by omega]
    refine ⟨⟨Bs, e - G, by omega, jp_St_shift k2 (by omega) (fun i hi hi2 => sft i hi (by omega)), by rw [sft e (by omega) (by omega)]; exact k3, by rw [show e - G + 1 = e + 1 - G by omega, sft (e + 1) (by omega) (by omega)]; exact k4, ?_⟩, by omega⟩
    rw [← jp_TS_congr2 (L := L) (L' := L') r1 (jp_rs r1 hs) (fun i hi q => (hL1 i hi (by omega)).symm)]
    rcases k5 with ⟨q1, q2⟩ | q
    · exact Or.inl ⟨q1, fun i hi q => by rw [hL1 i hi (by omega)]; exact q2 i hi q⟩
    · exact Or.inr q
end
section
/-! lose -/
def jp_lc (r g : Nat) (L : Nat → Int32) (k : Nat) : Nat := jp_sN (fun k => if k / r = g then jp_nz L k 64 else 0) k
theorem jp_xlo23 {post : Int32 → SX → Prop} {nq ni qu iv ln ct : Int32} {pi qa od cl bs wt ab co so fc fp sa hf su : Nat → Int32} (hq : ∀ t, t < 9 → qa t = jp_qI t) (hod : ∀ k, k < 64 → od k = nI (jp_zg k)) {r q Ln g : Nat} {L : Nat → Int32} {C N p : Nat → Nat} (hln : ln = nI Ln) (hiv : iv = nI r) (r1 : 1 ≤ r) (r4 : r ≤ 4) (hqu : qu = nI q) (q1 : 1 ≤ q) (q8 : q ≤ 8)
    (hL : ∀ i, i < 256 → jp_ab (L i) ≤ 2048) (hS : jp_Stored r L bs so fc fp sa C N p Ln) (hg : g ≤ 3)
    (h : ∀ pr bb bc ra dc lv sh wi, ∃ n70, wX_lose_70 post (nI g) (nI (jp_lc r g L 4)) nq ni qu iv ln ct pr bb bc ra dc pi qa od cl bs wt ab co so fc fp sa lv sh hf su wi n70 0 0 0 0) :
    ∀ (d b : Nat) (pr bb bc ra dc : Int32) (lv sh : Nat → Int32) (wi : Nat → Int64), b + d = 4 → (¬ dc = 0 → (∀ i, i < 256 → lv i = L i) ∧ ∀ n, n < 256 → sh n = jp_sh qu L n) → wX_lose_23 post (nI g) (d + 1) (nI (jp_lc r g L b)) (nI b) nq ni qu iv ln ct pr bb bc ra dc pi qa od cl bs wt ab co so fc fp sa lv sh hf su wi := by
  intro d
  induction d with
  | zero =>
    intro b pr bb bc ra dc lv sh wi hb hd
    obtain rfl : b = 4 := by omega
    exact br_t (by decide) (h pr bb bc ra dc lv sh wi)
  | succ d ih =>
    intro b pr bb bc ra dc lv sh wi hb hd
    have hbr : b / r ≤ b := Nat.div_le_self _ _
    refine br_f (nI_ge (b := 4) (by omega) (by decide)) (jp_xsegmentOf hiv r1 r4 (by omega) (pk_eq (b / r) g (fun z => ?_) (fun z => nm_r (nI_1 b) ?_)))
    · refine jp_xweight hq hod hln hiv r1 r4 hqu q1 q8 hL hS hd (by omega) (fun pr bb bc ra dc lv sh wi h1 h2 h3 => nm_r (e' := nI (jp_lc r g L (b + 1))) ?_ (nm_r (nI_1 b) (ih (b + 1) pr bb bc ra dc lv sh wi (by omega) (fun _ => ⟨h2, h3⟩))))
      unfold jp_lc
      rw [jp_sN, if_pos z]
      exact nI_add _ _
    · have e : jp_lc r g L (b + 1) = jp_lc r g L b := by
        unfold jp_lc
        rw [jp_sN, if_neg z]
        rfl
      rw [← e]
      exact ih (b + 1) pr bb bc ra dc lv sh wi (by omega) hd
theorem jp_xlose {post : Int32 → SX → Prop} {nq ni qu iv ln ct pr bb bc ra dc : Int32} {pi qa od cl bs wt ab co so fc fp sa lv sh hf su : Nat → Int32} {wi : Nat → Int64} (hq : ∀ t, t < 9 → qa t = jp_qI t) (hod : ∀ k, k < 64 → od k = nI (jp_zg k)) {r q Ln b : Nat} {L L' : Nat → Int32} {C N p : Nat → Nat} (hln : ln = nI Ln) (hiv : iv = nI r) (r1 : 1 ≤ r) (r4 : r ≤ 4) (hqu : qu = nI q) (q1 : 1 ≤ q) (q8 : q ≤ 8)
    (hL : ∀ i, i < 256 → jp_ab (L i) ≤ 2048) (hS : jp_Stored r L bs so fc fp sa C N p Ln) (hd : ¬ dc = 0 → (∀ i, i < 256 → lv i = L i) ∧ ∀ n, n < 256 → sh n = jp_sh qu L n) (hb : b < 4)
    (hL0 : ∀ i, i < 256 → i / 64 / r = b / r → L' i = 0) (hL1 : ∀ i, i < 256 → i / 64 / r ≠ b / r → L' i = L i)
    (h : ∀ ln' bs' pr' bb' bc' ra' lv' sh' wi' p' Ln', ln' = nI Ln' → jp_Stored r L' bs' so fc fp sa C N p' Ln' → post (nI (jp_lc r (b / r) L 4)) (nq, ni, qu, iv, ln', ct, pr', bb', bc', ra', 0, pi, qa, od, cl, bs', wt, ab, co, so, fc, fp, sa, lv', sh', hf, su, wi')) : wpX_lose post (nq, ni, qu, iv, ln, ct, pr, bb, bc, ra, dc, pi, qa, od, cl, bs, wt, ab, co, so, fc, fp, sa, lv, sh, hf, su, wi) (nI b) := by
  have hg : b / r ≤ 3 / r := Nat.div_le_div_right (by omega)
  have hg3 : 3 / r ≤ 3 := Nat.div_le_self _ _
  obtain ⟨_, _, m3⟩ := jp_ismark r1 hS hg
  have gl := (hS.2.2.2 _ hg).2
  have hl := hS.1
  refine br_f (nI_pos (by omega)) (br_t (nI_le (b := 3) (by omega) (by decide)) (jp_xsegmentOf hiv r1 r4 hb ⟨5, jp_xlo23 hq hod hln hiv r1 r4 hqu q1 q8 hL hS (by omega) (fun pr bb bc ra dc lv sh wi => ⟨Ln + 1, ?_⟩) 4 0 pr bb bc ra dc lv sh wi rfl hd⟩))
  refine jp_xlo70 hln r1 hS hg ⟨Ln - (p (b / r + 1) - 2) + 1, ?_⟩ (Ln + 1) 0 0 0 (Nat.zero_le _) (by rw [hS.2.1]; omega) (by have := (jp_ismark r1 hS (Nat.zero_le (3 / r))).2.2; omega) (fun e => by rw [← e]; exact hS.2.1.symm) (by omega)
  refine jp_xlo141 (bs0 := bs) (E := p (b / r + 1) - 2) hln hl (by omega) (by omega) (fun bs' a1 a2 => ?_) (Ln - (p (b / r + 1) - 2)) _ bs (by omega) (Nat.le_refl _) (fun _ _ => rfl) (fun j j1 j2 => absurd j2 (by omega)) (fun _ _ => rfl)
  rw [show p (b / r + 1) - 2 - (p (b / r + 1) - 2 - p (b / r)) = p (b / r) by omega] at a1 a2
  obtain ⟨p', hS'⟩ := jp_Stored_lose r1 hS hg hL0 hL1 a1 a2
  exact h _ bs' pr bb bc ra lv sh wi p' _ rfl hS'
end
section
/-! the reference: levels -/
theorem jp_ylo32 {post : Int32 → Prop} {J : Int32 → Int32 → Prop} {mq mi mu mv : Int32} {mp ml : Nat → Int32} {b u v j : Nat} (hb : b < 4) (hu : u < 8) (hv : v < 8) (hj : j < 8) {S : Int32}
    (hJ : J (S + jp_sI (fun i => (mp (jp_co b + 16 * j + i) - 128) * jp_k u i * jp_k v j) 8) (nI (j + 1))) :
    ∀ d i : Nat, i + d = 8 → wY_levelOf_32 post J (nI u) (nI v) (nI (jp_co b)) (nI j) mq mi mu mv mp ml (d + 1) (S + jp_sI (fun i => (mp (jp_co b + 16 * j + i) - 128) * jp_k u i * jp_k v j) i) (nI i) := by
  have hc := jp_co_le b hb
  intro d
  induction d with
  | zero =>
    intro i hi
    obtain rfl : i = 8 := by omega
    exact br_t (by decide) (nm_r (nI_1 j) hJ)
  | succ d ih =>
    intro i hi
    have e1 : (nI (jp_co b) + 16 * nI j) + nI i = nI (jp_co b + 16 * j + i) := by
      rw [show (16 : Int32) = nI 16 from rfl, pk_mul, nI_add, nI_add]
    refine br_f (nI_ge (b := 8) (by omega) (by decide)) (jp_yk hu (by omega) (jp_yk hv hj ?_))
    rw [e1, nI_clamp (by omega)]
    refine ⟨vp_in_nI (by omega) (by decide), nm_r (e' := S + jp_sI (fun i => (mp (jp_co b + 16 * j + i) - 128) * jp_k u i * jp_k v j) (i + 1)) ?_ (nm_r (nI_1 i) (ih (i + 1) (by omega)))⟩
    rw [jp_sI, Int32.add_assoc]
theorem jp_ylo22 {post : Int32 → Prop} {mq mi mu mv : Int32} {mp ml : Nat → Int32} {b u v q : Nat} (hmu : mu = nI q) (q1 : 1 ≤ q) (q8 : q ≤ 8) (hb : b < 4) (hu : u < 8) (hv : v < 8) (h : post (jp_Q (jp_S mp b u v) (jp_d mu u v))) :
    ∀ d j : Nat, j + d = 8 → wY_levelOf_22 post (nI u) (nI v) (nI (jp_co b)) mq mi mu mv mp ml (d + 1) (jp_sI (fun j => jp_sI (fun i => (mp (jp_co b + 16 * j + i) - 128) * jp_k u i * jp_k v j) 8) j) (nI j) := by
  intro d
  induction d with
  | zero =>
    intro j hj
    obtain rfl : j = 8 := by omega
    have hd := jp_d_bd (u := u) (v := v) q1 q8 hu hv
    have ed : (8192 * mu) * ((2 + nI u) + nI v) = nI (8192 * q * (2 + u + v)) := by rw [hmu]; exact jp_d_nat
    have d1 : ¬ 2 * ((8192 * mu) * ((2 + nI u) + nI v)) = 0 := by
      rw [ed, show (2 : Int32) = nI 2 from rfl, pk_mul]; exact nI_ne0 (by omega) (by omega)
    refine br_t (by decide) ?_
    unfold jp_Q at h
    refine br_c (fun z => ?_) (fun z => ?_)
    · have z' : 0 ≤ jp_S mp b u v := z
      rw [if_pos z'] at h
      exact ⟨d1, nm_e (br_t z h)⟩
    · have z' : ¬ 0 ≤ jp_S mp b u v := z
      rw [if_neg z'] at h
      exact ⟨d1, nm_e (br_f z h)⟩
  | succ d ih =>
    intro j hj
    have k := jp_ylo32 (post := post) (J := wY_levelOf_22 post (nI u) (nI v) (nI (jp_co b)) mq mi mu mv mp ml (d + 1)) (mq := mq) (mi := mi) (mu := mu) (mv := mv) (mp := mp) (ml := ml) hb hu hv (show j < 8 by omega) (S := jp_sI (fun j => jp_sI (fun i => (mp (jp_co b + 16 * j + i) - 128) * jp_k u i * jp_k v j) 8) j) (ih (j + 1) (by omega)) 8 0 rfl
    rw [show jp_sI (fun i => (mp (jp_co b + 16 * j + i) - 128) * jp_k u i * jp_k v j) 0 = 0 from rfl, Int32.add_zero] at k
    exact br_f (nI_ge (b := 8) (by omega) (by decide)) ⟨9, k⟩
theorem jp_co_y : ∀ b, b < 4 → (128 * (nI b / 2)) + (8 * (nI b - nI b / 2 * 2)) = nI (jp_co b) := by decide +kernel
theorem jp_ylevelOf {post : Int32 → Prop} {mq mi mu mv : Int32} {mp ml : Nat → Int32} {b u v q : Nat} (hmu : mu = nI q) (q1 : 1 ≤ q) (q8 : q ≤ 8) (hb : b < 4) (hu : u < 8) (hv : v < 8) (h : post (jp_Q (jp_S mp b u v) (jp_d mu u v))) : wpY_levelOf post (mq, mi, mu, mv, mp, ml) (nI b) (nI u) (nI v) :=
  ⟨by decide, by decide, nm_r (jp_co_y b hb) ⟨9, jp_ylo22 hmu q1 q8 hb hu hv h 8 0 rfl⟩⟩
/-! weight, store -/
theorem jp_ywt19 {post : Int32 → Prop} {mq mi mu mv : Int32} {mp ml : Nat → Int32} {b : Nat} (hb : b < 4) (h : post (nI (jp_nz ml b 64))) : ∀ d k : Nat, k + d = 64 → wY_weight_19 post (nI b) mq mi mu mv mp ml (d + 1) (nI (jp_nz ml b k)) (nI (64 * b + k)) := by
  have e1 : 64 * nI b + 64 = nI (64 * b + 64) := by rw [show (64 : Int32) = nI 64 from rfl, pk_mul, nI_add]
  intro d
  induction d with
  | zero =>
    intro k hk
    obtain rfl : k = 64 := by omega
    exact br_t (by rw [e1]; exact nI_le (Nat.le_refl _) (by omega)) h
  | succ d ih =>
    intro k hk
    refine br_f (by rw [e1]; exact nI_ge (by omega) (by omega)) ?_
    rw [nI_clamp (by omega)]
    refine ⟨vp_in_nI (by omega) (by decide), br_c (fun z => nm_r (nI_1 _) ?_) (fun z => nm_r (nI_1 _) (nm_r (nI_1 _) ?_))⟩
    · rw [← jp_nz_y z]; exact ih (k + 1) (by omega)
    · rw [← jp_nz_n z]; exact ih (k + 1) (by omega)
theorem jp_yweight {post : Int32 → Prop} {mq mi mu mv : Int32} {mp ml : Nat → Int32} {b : Nat} (hb : b < 4) (h : post (nI (jp_nz ml b 64))) : wpY_weight post (mq, mi, mu, mv, mp, ml) (nI b) := by
  have e1 : 64 * nI b = nI (64 * b + 0) := by rw [show (64 : Int32) = nI 64 from rfl, pk_mul]; rfl
  exact br_f (nI_pos (by omega)) (br_t (nI_le (b := 3) (by omega) (by decide)) (nm_r e1 ⟨65, jp_ywt19 hb h 64 0 rfl⟩))
theorem jp_yst18 {post : Int32 → SY → Prop} {mq mi mu mv : Int32} {mp : Nat → Int32} {q : Nat} (hmu : mu = nI q) (q1 : 1 ≤ q) (q8 : q ≤ 8)
    (h : ∀ ml, (∀ i, i < 256 → ml i = jp_L mp mu i) → post (nI (jp_sN (fun b => jp_nz ml b 64) 4)) (mq, mi, mu, mv, mp, ml)) :
    ∀ (d n : Nat) (ml : Nat → Int32), n + d = 256 → (∀ i, i < n → ml i = jp_L mp mu i) → wY_store_18 post mq mi mu mv (d + 1) (nI n) mp ml := by
  intro d
  induction d with
  | zero =>
    intro n ml hn h1
    obtain rfl : n = 256 := by omega
    refine br_t (by decide) (jp_yweight (b := 0) (by decide) (jp_yweight (b := 1) (by decide) (jp_yweight (b := 2) (by decide) (jp_yweight (b := 3) (by decide) ?_))))
    have k := h ml h1
    simp only [jp_sN, Nat.zero_add] at k
    rw [nI_add, nI_add, nI_add]
    exact k
  | succ d ih =>
    intro n ml hn h1
    have e1 : nI n >>> ((6 : Int32) &&& 31) = nI (n / 64) := pk_shrN (by omega) _ 6 (by decide)
    have e2 : nI n &&& 7 = nI (n % 8) := pk_andN (by omega) 3 (by decide)
    have e3 : (nI n >>> ((3 : Int32) &&& 31)) &&& 7 = nI (n / 8 % 8) := by
      rw [pk_shrN (by omega) _ 3 (by decide), pk_andN (by omega) 3 (by decide)]
    refine br_f (nI_ge (b := 256) (by omega) (by decide)) ?_
    rw [e1, e2, e3]
    refine jp_ylevelOf hmu q1 q8 (by omega) (by omega) (by omega) ⟨vp_in_nI (by omega) (by decide), nm_e (nm_r (nI_1 n) (ih (n + 1) _ (by omega) (fun i hi => ?_)))⟩
    rw [nI_clamp (by omega)]
    by_cases e : i = n
    · rw [e, pk_us]; rfl
    · rw [pk_un e]; exact h1 i (by omega)
theorem jp_ystore {post : Int32 → SY → Prop} {mq mi mu mv : Int32} {mp ml : Nat → Int32} {q : Nat} (hmq : mq = nI q) (q1 : 1 ≤ q) (q8 : q ≤ 8)
    (h : ∀ ml', (∀ i, i < 256 → ml' i = jp_L mp mq i) → post (nI (jp_sN (fun b => jp_nz ml' b 64) 4)) (mq, mi, mq, mi, mp, ml')) : wpY_store post (mq, mi, mu, mv, mp, ml) :=
  ⟨257, jp_yst18 hmq q1 q8 h 256 0 ml rfl (fun i hi => absurd hi (by omega))⟩
/-! lose -/
def jp_yc (r g : Nat) (L : Nat → Int32) (i : Nat) : Nat := if i / 64 / r = g then (if L i = 0 then 0 else 1) else 0
theorem jp_yc_sum (r g : Nat) (L : Nat → Int32) : jp_sN (jp_yc r g L) 256 = jp_lc r g L 4 := by
  have key : ∀ k, jp_sN (fun i => jp_yc r g L (64 * k + i)) 64 = if k / r = g then jp_nz L k 64 else 0 := by
    intro k
    by_cases z : k / r = g
    · rw [if_pos z]
      unfold jp_nz
      apply jp_sN_congr
      intro i hi
      unfold jp_yc
      rw [show (64 * k + i) / 64 = k by omega, if_pos z]
    · rw [if_neg z, jp_sN_congr (g := fun _ => 0), jp_sN_zero]
      intro i hi
      unfold jp_yc
      rw [show (64 * k + i) / 64 = k by omega, if_neg z]
  have h3 := jp_sN_app (jp_yc r g L) (64 * 3) 64
  have h2 := jp_sN_app (jp_yc r g L) (64 * 2) 64
  have h1 := jp_sN_app (jp_yc r g L) (64 * 1) 64
  have h0 := jp_sN_app (jp_yc r g L) (64 * 0) 64
  rw [key] at h3 h2 h1 h0
  have u : jp_lc r g L 4 = 0 + (if 0 / r = g then jp_nz L 0 64 else 0) + (if 1 / r = g then jp_nz L 1 64 else 0) + (if 2 / r = g then jp_nz L 2 64 else 0) + (if 3 / r = g then jp_nz L 3 64 else 0) := rfl
  rw [u]
  have z : jp_sN (jp_yc r g L) (64 * 0) = 0 := rfl
  rw [z] at h0
  have a1 : jp_sN (jp_yc r g L) (64 * 3 + 64) = jp_sN (jp_yc r g L) 256 := rfl
  have a2 : jp_sN (jp_yc r g L) (64 * 2 + 64) = jp_sN (jp_yc r g L) (64 * 3) := rfl
  have a3 : jp_sN (jp_yc r g L) (64 * 1 + 64) = jp_sN (jp_yc r g L) (64 * 2) := rfl
  have a4 : jp_sN (jp_yc r g L) (64 * 0 + 64) = jp_sN (jp_yc r g L) (64 * 1) := rfl
  omega
theorem jp_ylo16 {post : Int32 → SY → Prop} {L : Nat → Int32} {mq mi mu mv : Int32} {mp : Nat → Int32} {r b : Nat} (hmv : mv = nI r) (r1 : 1 ≤ r) (r4 : r ≤ 4) (hb : b < 4)
    (h : ∀ ml, (∀ i, i < 256 → i / 64 / r = b / r → ml i = 0) → (∀ i, i < 256 → i / 64 / r ≠ b / r → ml i = L i) → post (nI (jp_sN (jp_yc r (b / r) L) 256)) (mq, mi, mu, mv, mp, ml)) :
    ∀ (d n : Nat) (ml : Nat → Int32), n + d = 256 → (∀ i, i < n → i / 64 / r = b / r → ml i = 0) → (∀ i, i < n → i / 64 / r ≠ b / r → ml i = L i) → (∀ i, n ≤ i → ml i = L i) → wY_lose_16 post (nI b) mq mi mu mv (d + 1) (nI (jp_sN (jp_yc r (b / r) L) n)) (nI n) mp ml := by
  intro d
  induction d with
  | zero =>
    intro n ml hn h1 h2 h3
    obtain rfl : n = 256 := by omega
    exact br_t (by decide) (h ml h1 h2)
  | succ d ih =>
    intro n ml hn h1 h2 h3
    have e1 : (nI n >>> ((6 : Int32) &&& 31)) / mv = nI (n / 64 / r) := by
      rw [hmv, pk_shrN (by omega) _ 6 (by decide)]
      exact pk_div (by omega) (by omega) (by omega)
    have e2 : nI b / mv = nI (b / r) := by rw [hmv]; exact pk_div (by omega) (by omega) (by omega)
    have b1 : n / 64 / r ≤ n / 64 := Nat.div_le_self _ _
    have b2 : b / r ≤ b := Nat.div_le_self _ _
    have m0 : ¬ mv = 0 := by rw [hmv]; exact nI_ne0 (by omega) (by omega)
    refine br_f (nI_ge (b := 256) (by omega) (by decide)) ⟨m0, m0, ?_⟩
    rw [e1, e2, nI_clamp (by omega)]
    refine pk_eq (n / 64 / r) (b / r) (fun z => ⟨vp_in_nI (by omega) (by decide), br_c (fun z2 => nm_r (nI_1 n) ?_) (fun z2 => ⟨vp_in_nI (by omega) (by decide), nm_e (nm_r (nI_1 _) (nm_r (nI_1 n) ?_))⟩)⟩) (fun z => nm_r (nI_1 n) ?_)
    · have e : jp_sN (jp_yc r (b / r) L) (n + 1) = jp_sN (jp_yc r (b / r) L) n := by
        rw [jp_sN, jp_yc, if_pos z, if_pos (by rw [← h3 n (Nat.le_refl _)]; exact z2)]; rfl
      rw [← e]
      refine ih (n + 1) ml (by omega) (fun i hi q => ?_) (fun i hi q => ?_) (fun i hi => h3 i (by omega))
      · by_cases e : i = n
        · rw [e]; exact z2
        · exact h1 i (by omega) q
      · by_cases e : i = n
        · rw [e] at q; exact absurd z q
        · exact h2 i (by omega) q
    · have e : jp_sN (jp_yc r (b / r) L) (n + 1) = jp_sN (jp_yc r (b / r) L) n + 1 := by
        rw [jp_sN, jp_yc, if_pos z, if_neg (by rw [← h3 n (Nat.le_refl _)]; exact z2)]
      rw [← e]
      refine ih (n + 1) _ (by omega) (fun i hi q => ?_) (fun i hi q => ?_) (fun i hi => ?_)
      · by_cases e : i = n
        · rw [e, pk_us]
        · rw [pk_un e]; exact h1 i (by omega) q
      · by_cases e : i = n
        · rw [e] at q; exact absurd z q
        · rw [pk_un e]; exact h2 i (by omega) q
      · rw [pk_un (by omega)]; exact h3 i (by omega)
    · have e : jp_sN (jp_yc r (b / r) L) (n + 1) = jp_sN (jp_yc r (b / r) L) n := by
        rw [jp_sN, jp_yc, if_neg z]; rfl
      rw [← e]
      refine ih (n + 1) ml (by omega) (fun i hi q => ?_) (fun i hi q => ?_) (fun i hi => h3 i (by omega))
      · by_cases e : i = n
        · rw [e] at q; exact absurd q z
        · exact h1 i (by omega) q
      · by_cases e : i = n
        · rw [e]; exact h3 n (Nat.le_refl _)
        · exact h2 i (by omega) q
theorem jp_ylose {post : Int32 → SY → Prop} {mq mi mu mv : Int32} {mp ml : Nat → Int32} {r b : Nat} (hmv : mv = nI r) (r1 : 1 ≤ r) (r4 : r ≤ 4) (hb : b < 4)
    (h : ∀ ml', (∀ i, i < 256 → i / 64 / r = b / r → ml' i = 0) → (∀ i, i < 256 → i / 64 / r ≠ b / r → ml' i = ml i) → post (nI (jp_lc r (b / r) ml 4)) (mq, mi, mu, mv, mp, ml')) : wpY_lose post (mq, mi, mu, mv, mp, ml) (nI b) := by
  refine br_f (nI_pos (by omega)) (br_t (nI_le (b := 3) (by omega) (by decide)) ⟨257, jp_ylo16 (L := ml) hmv r1 r4 hb (fun ml' a1 a2 => ?_) 256 0 ml rfl (fun i hi => absurd hi (by omega)) (fun i hi => absurd hi (by omega)) (fun _ _ => rfl)⟩)
  rw [jp_yc_sum]
  exact h ml' a1 a2
end
section
/-! the reference: show -/
theorem jp_ysh67 {post : Int32 → Prop} {J30 J40 : Int64 → Int32 → Prop} {mq mi mu mv : Int32} {mp ml : Nat → Int32} {x y b v u : Nat} (hx : x < 16) (hy : y < 16) (hb : b < 4) (hv : v < 8) (hu : u < 8) {S : Int64} {z0 z1 : Int32} (e0 : z0 = jp_cI v) (e1 : z1 = jp_cI u)
    (h : J40 (S + jp_ty mu ml b (x % 8) (y % 8) v u) (nI (u + 1))) : wY_show_67 post J30 J40 (nI x) (nI y) (nI b) S (nI v) (nI u) z0 z1 mq mi mu mv mp ml := by
  have e3 : ((64 * nI b) + (8 * nI v)) + nI u = nI (64 * b + 8 * v + u) := by
    rw [show (64 : Int32) = nI 64 from rfl, show (8 : Int32) = nI 8 from rfl, pk_mul, pk_mul, nI_add, nI_add]
  have e4 : nI x - nI x / 8 * 8 = nI (x % 8) := pk_rem (d := 8) (by omega) (by decide) (by decide)
  have e5 : nI y - nI y / 8 * 8 = nI (y % 8) := pk_rem (d := 8) (by omega) (by decide) (by decide)
  unfold wY_show_67 wpY_step
  dsimp only
  rw [e3, e4, e5, nI_clamp (by omega)]
  refine nm_r (e' := jp_cI u * jp_cI v) (by rw [e0, e1]) ⟨vp_in_nI (by omega) (by decide), nm_e ⟨by decide, jp_yk hu (by omega) ⟨by decide, jp_yk hv (by omega) (nm_e (nm_r (nI_1 u) ?_))⟩⟩⟩
  exact h
theorem jp_ysh40 {post : Int32 → Prop} {J30 : Int64 → Int32 → Prop} {mq mi mu mv : Int32} {mp ml : Nat → Int32} {x y b v : Nat} (hx : x < 16) (hy : y < 16) (hb : b < 4) (hv : v < 8) {S : Int64}
    (hJ : J30 (S + jp_sL (jp_ty mu ml b (x % 8) (y % 8) v) 8) (nI (v + 1))) :
    ∀ d u : Nat, u + d = 8 → wY_show_40 post J30 (nI x) (nI y) (nI b) (nI v) mq mi mu mv mp ml (d + 1) (S + jp_sL (jp_ty mu ml b (x % 8) (y % 8) v) u) (nI u) := by
  intro d
  induction d with
  | zero =>
    intro u hu
    obtain rfl : u = 8 := by omega
    exact br_t (by decide) (nm_r (nI_1 v) hJ)
  | succ d ih =>
    intro u hu
    have key : ∀ z0 z1, z0 = jp_cI v → z1 = jp_cI u → wY_show_67 post J30 (wY_show_40 post J30 (nI x) (nI y) (nI b) (nI v) mq mi mu mv mp ml (d + 1)) (nI x) (nI y) (nI b) (S + jp_sL (jp_ty mu ml b (x % 8) (y % 8) v) u) (nI v) (nI u) z0 z1 mq mi mu mv mp ml := by
      intro z0 z1 h0 h1
      refine jp_ysh67 hx hy hb hv (by omega) h0 h1 ?_
      rw [Int64.add_assoc]
      exact ih (u + 1) (by omega)
    refine br_f (nI_ge (b := 8) (by omega) (by decide)) (pk_eq u 0 (fun q => pk_eq v 0 (fun q2 => key _ _ (if_pos q2).symm (if_pos q).symm) (fun q2 => key _ _ (if_neg q2).symm (if_pos q).symm)) (fun q => pk_eq v 0 (fun q2 => key _ _ (if_pos q2).symm (if_neg q).symm) (fun q2 => key _ _ (if_neg q2).symm (if_neg q).symm)))
theorem jp_ysh30 {post : Int32 → Prop} {mq mi mu mv : Int32} {mp ml : Nat → Int32} {x y b : Nat} (hx : x < 16) (hy : y < 16) (hb : b < 4) (h : post (jp_cp (jp_T mu ml b (x % 8) (y % 8)))) :
    ∀ d v : Nat, v + d = 8 → wY_show_30 post (nI x) (nI y) (nI b) mq mi mu mv mp ml (d + 1) (jp_sL (fun v => jp_sL (jp_ty mu ml b (x % 8) (y % 8) v) 8) v) (nI v) := by
  intro d
  induction d with
  | zero =>
    intro v hv
    obtain rfl : v = 8 := by omega
    refine br_t (by decide) (nm_r (e' := jp_zz (jp_T mu ml b (x % 8) (y % 8))) rfl ?_)
    unfold jp_cp at h
    refine br_c (fun z => br_c (fun z2 => ?_) (fun z2 => ?_)) (fun z => ?_)
    · rw [if_pos z, if_pos z2] at h; exact h
    · rw [if_pos z, if_neg z2] at h; exact h
    · rw [if_neg z] at h; exact h
  | succ d ih =>
    intro v hv
    have k := jp_ysh40 (post := post) (J30 := wY_show_30 post (nI x) (nI y) (nI b) mq mi mu mv mp ml (d + 1)) (mq := mq) (mi := mi) (mu := mu) (mv := mv) (mp := mp) (ml := ml) hx hy hb (show v < 8 by omega) (S := jp_sL (fun v => jp_sL (jp_ty mu ml b (x % 8) (y % 8) v) 8) v) (ih (v + 1) (by omega)) 8 0 rfl
    rw [show jp_sL (jp_ty mu ml b (x % 8) (y % 8) v) 0 = 0 from rfl, Int64.add_zero] at k
    exact br_f (nI_ge (b := 8) (by omega) (by decide)) ⟨9, k⟩
theorem jp_yisP {post : Int32 → Prop} {mq mi mu mv : Int32} {mp ml : Nat → Int32} {x y : Nat} (hx : x < 16) (hy : y < 16) (h : post 1) : wpY_isPixel post (mq, mi, mu, mv, mp, ml) (nI x) (nI y) :=
  br_f (nI_pos (by omega)) (br_f (nI_nlt (by omega) (by decide) : ¬ nI 15 < nI x) (br_f (nI_pos (by omega)) (br_f (nI_nlt (by omega) (by decide) : ¬ nI 15 < nI y) h)))
theorem jp_yshow {post : Int32 → Prop} {mq mi mu mv : Int32} {mp ml : Nat → Int32} {x y : Nat} (hx : x < 16) (hy : y < 16) (h : post (jp_sh mu ml (16 * y + x))) : wpY_show post (mq, mi, mu, mv, mp, ml) (nI x) (nI y) := by
  have e : (2 * (nI y / 8)) + (nI x / 8) = nI (2 * (y / 8) + x / 8) := by
    rw [show nI y / 8 = nI (y / 8) from pk_div (d := 8) (by omega) (by decide) (by decide), show nI x / 8 = nI (x / 8) from pk_div (d := 8) (by omega) (by decide) (by decide), show (2 : Int32) = nI 2 from rfl, pk_mul, nI_add]
  unfold wpY_show
  dsimp only
  refine jp_yisP hx hy ?_
  refine br_f (by decide) ⟨by decide, by decide, nm_r e ⟨9, jp_ysh30 hx hy (by omega) ?_ 8 0 rfl⟩⟩
  unfold jp_sh jp_bn at h
  rw [show 2 * ((16 * y + x) / 128) + (16 * y + x) % 16 / 8 = 2 * (y / 8) + x / 8 by omega, show (16 * y + x) % 8 = x % 8 by omega, show (16 * y + x) / 16 % 8 = y % 8 by omega] at h
  exact h
/-! difference, adopt: both sides -/
def jp_da (d : Int32) : Int32 := if 0 ≤ d then d else -d
def jp_df (pi F : Nat → Int32) (k : Nat) : Int32 := jp_sI (fun i => jp_da (pi i - F i)) k
theorem jp_df_congr {pi F F' : Nat → Int32} (h : ∀ i, i < 256 → F i = F' i) : jp_df pi F 256 = jp_df pi F' 256 := by
  unfold jp_df
  apply jp_sI_congr
  intro i hi
  rw [h i hi]
theorem jp_df_y {pi F : Nat → Int32} {k : Nat} (h : 0 ≤ pi k - F k) : jp_df pi F k + (pi k - F k) = jp_df pi F (k + 1) := by
  unfold jp_df
  rw [jp_sI, jp_da, if_pos h]
theorem jp_df_n {pi F : Nat → Int32} {k : Nat} (h : ¬ 0 ≤ pi k - F k) : jp_df pi F k + (-(pi k - F k)) = jp_df pi F (k + 1) := by
  unfold jp_df
  rw [jp_sI, jp_da, if_neg h]
theorem jp_xdf8 {post : Int32 → SX → Prop} {nq ni qu iv ln ct pr bb bc ra dc : Int32} {pi qa od cl bs wt ab co so fc fp sa lv sh hf su : Nat → Int32} {wi : Nat → Int64} (h : post (jp_df pi sh 256) (nq, ni, qu, iv, ln, ct, pr, bb, bc, ra, dc, pi, qa, od, cl, bs, wt, ab, co, so, fc, fp, sa, lv, sh, hf, su, wi)) : ∀ d k : Nat, k + d = 256 → wX_difference_8 post nq ni qu iv ln ct pr bb bc ra dc pi qa od cl bs wt ab co so fc fp sa lv sh hf su wi (d + 1) (jp_df pi sh k) (nI k) := by
  intro d
  induction d with
  | zero =>
    intro k hk
    obtain rfl : k = 256 := by omega
    exact br_t (by decide) h
  | succ d ih =>
    intro k hk
    refine br_f (nI_ge (b := 256) (by omega) (by decide)) ?_
    rw [nI_clamp (by omega)]
    exact ⟨vp_in_nI (by omega) (by decide), vp_in_nI (by omega) (by decide), nm_e (br_c (fun z => nm_r (jp_df_y z) (nm_r (nI_1 k) (ih (k + 1) (by omega)))) (fun z => nm_r (jp_df_n z) (nm_r (nI_1 k) (ih (k + 1) (by omega)))))⟩
theorem jp_ysat {post : Int32 → Prop} {mq mi mu mv : Int32} {mp ml : Nat → Int32} {k : Nat} (hk : k < 256) (h : post (jp_sh mu ml k)) : wpY_show post (mq, mi, mu, mv, mp, ml) (nI k &&& 15) (nI k >>> ((4 : Int32) &&& 31)) := by
  rw [pk_andN (by omega) 4 (by decide), pk_shrN (by omega) _ 4 (by decide)]
  refine jp_yshow (by omega) (by omega) ?_
  rw [show 16 * (k / 2 ^ 4) + k % 2 ^ 4 = k by omega]
  exact h
theorem jp_ydf4 {post : Int32 → Prop} {mq mi mu mv : Int32} {mp ml : Nat → Int32} (h : post (jp_df mp (jp_sh mu ml) 256)) : ∀ d k : Nat, k + d = 256 → wY_difference_4 post mq mi mu mv mp ml (d + 1) (jp_df mp (jp_sh mu ml) k) (nI k) := by
  intro d
  induction d with
  | zero =>
    intro k hk
    obtain rfl : k = 256 := by omega
    exact br_t (by decide) h
  | succ d ih =>
    intro k hk
    refine br_f (nI_ge (b := 256) (by omega) (by decide)) ⟨vp_in_nI (by omega) (by decide), jp_ysat (by omega) ?_⟩
    rw [nI_clamp (by omega)]
    exact nm_e (br_c (fun z => nm_r (jp_df_y z) (nm_r (nI_1 k) (ih (k + 1) (by omega)))) (fun z => nm_r (jp_df_n z) (nm_r (nI_1 k) (ih (k + 1) (by omega)))))
theorem jp_ydifference {post : Int32 → Prop} {mq mi mu mv : Int32} {mp ml : Nat → Int32} (h : post (jp_df mp (jp_sh mu ml) 256)) : wpY_difference post (mq, mi, mu, mv, mp, ml) := ⟨257, jp_ydf4 h 256 0 rfl⟩
/-- the first n places from F -/
def jp_pu (F : Nat → Int32) (n : Nat) (a : Nat → Int32) : Nat → Int32 := fun i => if i < n then F i else a i
theorem jp_pu_0 (F a : Nat → Int32) : jp_pu F 0 a = a := by
  funext i
  exact if_neg (Nat.not_lt_zero _)
theorem jp_pu_s {F a : Nat → Int32} {n : Nat} {x : Int32} (h : x = F n) : upd (jp_pu F n a) n x = jp_pu F (n + 1) a := by
  funext i
  by_cases e : i = n
  · rw [e, pk_us, h]
    exact (if_pos (Nat.lt_succ_self n)).symm
  · rw [pk_un e]
    unfold jp_pu
    by_cases z : i < n
    · rw [if_pos z, if_pos (by omega)]
    · rw [if_neg z, if_neg (by omega)]
theorem jp_pu_lt {F a : Nat → Int32} {n i : Nat} (h : i < n) : jp_pu F n a i = F i := if_pos h
theorem jp_pu_ge {F a : Nat → Int32} {n i : Nat} (h : n ≤ i) : jp_pu F n a i = a i := if_neg (by omega)
theorem jp_pu_congr {F F' a : Nat → Int32} {n : Nat} (h : ∀ i, i < n → F i = F' i) : jp_pu F n a = jp_pu F' n a := by
  funext i
  by_cases z : i < n
  · rw [jp_pu_lt z, jp_pu_lt z, h i z]
  · rw [jp_pu_ge (by omega), jp_pu_ge (by omega)]
theorem jp_xad7 {post : Int32 → SX → Prop} {nq ni qu iv ln ct pr bb bc ra dc : Int32} {pi qa od cl bs wt ab co so fc fp sa lv sh hf su : Nat → Int32} {wi : Nat → Int64} {x1 : Int32} (h : post x1 (nq, ni, qu, iv, ln, ct, pr, bb, bc, ra, dc, jp_pu sh 256 pi, qa, od, cl, bs, wt, ab, co, so, fc, fp, sa, lv, sh, hf, su, wi)) : ∀ d k : Nat, k + d = 256 → wX_adopt_7 post x1 nq ni qu iv ln ct pr bb bc ra dc (d + 1) (nI k) (jp_pu sh k pi) qa od cl bs wt ab co so fc fp sa lv sh hf su wi := by
  intro d
  induction d with
  | zero =>
    intro k hk
    obtain rfl : k = 256 := by omega
    exact br_t (by decide) h
  | succ d ih =>
    intro k hk
    refine br_f (nI_ge (b := 256) (by omega) (by decide)) ?_
    rw [nI_clamp (by omega)]
    exact ⟨vp_in_nI (by omega) (by decide), vp_in_nI (by omega) (by decide), nm_r (jp_pu_s rfl) (nm_r (nI_1 k) (ih (k + 1) (by omega)))⟩
theorem jp_yad7 {post : Int32 → SY → Prop} {mq mi mu mv : Int32} {mp ml : Nat → Int32} {x1 : Int32} (h : post x1 (mq, mi, mu, mv, jp_pu (jp_sh mu ml) 256 mp, ml)) : ∀ d k : Nat, k + d = 256 → wY_adopt_7 post x1 mq mi mu mv (d + 1) (nI k) (jp_pu (jp_sh mu ml) k mp) ml := by
  intro d
  induction d with
  | zero =>
    intro k hk
    obtain rfl : k = 256 := by omega
    exact br_t (by decide) h
  | succ d ih =>
    intro k hk
    refine br_f (nI_ge (b := 256) (by omega) (by decide)) (jp_ysat (by omega) ⟨vp_in_nI (by omega) (by decide), nm_r (e' := jp_pu (jp_sh mu ml) (k + 1) mp) ?_ (nm_r (nI_1 k) (ih (k + 1) (by omega)))⟩)
    rw [nI_clamp (by omega)]
    exact jp_pu_s rfl
theorem jp_yadopt {post : Int32 → SY → Prop} {mq mi mu mv : Int32} {mp ml : Nat → Int32} (h : post (jp_df mp (jp_sh mu ml) 256) (mq, mi, mu, mv, jp_pu (jp_sh mu ml) 256 mp, ml)) : wpY_adopt post (mq, mi, mu, mv, mp, ml) := by
  have k := jp_yad7 (mq := mq) (mi := mi) (mu := mu) (mv := mv) (mp := mp) (ml := ml) h 256 0 rfl
  rw [jp_pu_0] at k
  exact jp_ydifference ⟨257, k⟩
theorem jp_cp_r {t : Int64} (h : -2251799813685248 ≤ t.toInt ∧ t.toInt ≤ 2251799813685248) : 0 ≤ (jp_cp t).toInt ∧ (jp_cp t).toInt ≤ 255 := by
  have b := jp_zz_b h
  unfold jp_cp
  have c1 : (-128 ≤ jp_zz t) ↔ -128 ≤ (jp_zz t).toInt := Int64.le_iff_toInt_le
  have c2 : (jp_zz t ≤ 127) ↔ (jp_zz t).toInt ≤ 127 := Int64.le_iff_toInt_le
  have e : (128 + (jp_zz t).toInt32).toInt = 128 + (jp_zz t).toInt := by
    rw [Int32.toInt_add, Int64.toInt_toInt32, show (128 : Int32).toInt = 128 from by decide, Int.bmod_eq_of_le (n := (jp_zz t).toInt) (by omega) (by omega), Int.bmod_eq_of_le (by omega) (by omega)]
  by_cases h1 : -128 ≤ jp_zz t
  · rw [if_pos h1]
    by_cases h2 : jp_zz t ≤ 127
    · rw [if_pos h2, e]
      rw [c1] at h1
      rw [c2] at h2
      omega
    · rw [if_neg h2]; decide
  · rw [if_neg h1]; decide
theorem jp_sh_r {q : Nat} {L : Nat → Int32} (q1 : 1 ≤ q) (q8 : q ≤ 8) (hL : ∀ i, i < 256 → jp_ab (L i) ≤ 2048) {n : Nat} (hn : n < 256) : 0 ≤ (jp_sh (nI q) L n).toInt ∧ (jp_sh (nI q) L n).toInt ≤ 255 := by
  unfold jp_sh
  exact jp_cp_r (jp_T_z q1 q8 hL (by unfold jp_bn; omega) (by omega) (by omega))
end
section
/-! the checks of arguments -/
theorem jp_c16 (v : Int32) : (∃ x, x < 16 ∧ v = nI x) ∨ (v < 0 ∨ (¬ v < 0 ∧ ¬ v < 16 ∧ 15 < v)) := by
  rcases pk_ix v (n := 16) (by decide) with h | h | h
  · exact Or.inr (Or.inl h)
  · have h : (16 : Int32) ≤ v := h
    rw [Int32.le_iff_toInt_le, show (16 : Int32).toInt = 16 from by decide] at h
    refine Or.inr (Or.inr ⟨?_, ?_, ?_⟩)
    · rw [Int32.lt_iff_toInt_lt, Int32.toInt_zero]; omega
    · rw [Int32.lt_iff_toInt_lt, show (16 : Int32).toInt = 16 from by decide]; omega
    · rw [Int32.lt_iff_toInt_lt, show (15 : Int32).toInt = 15 from by decide]; omega
  · exact Or.inl h
theorem jp_c256 (v : Int32) : (∃ x, x < 256 ∧ v = nI x) ∨ (v < 0 ∨ (¬ v < 0 ∧ ¬ v ≤ 255 ∧ 255 < v)) := by
  rcases pk_ix v (n := 256) (by decide) with h | h | h
  · exact Or.inr (Or.inl h)
  · have h : (256 : Int32) ≤ v := h
    rw [Int32.le_iff_toInt_le, show (256 : Int32).toInt = 256 from by decide] at h
    refine Or.inr (Or.inr ⟨?_, ?_, ?_⟩)
    · rw [Int32.lt_iff_toInt_lt, Int32.toInt_zero]; omega
    · rw [Int32.le_iff_toInt_le, show (255 : Int32).toInt = 255 from by decide]; omega
    · rw [Int32.lt_iff_toInt_lt, show (255 : Int32).toInt = 255 from by decide]; omega
  · exact Or.inl h
theorem jp_xoff0 {post : Int32 → Prop} {nq ni qu iv ln ct pr bb bc ra dc : Int32} {pi qa od cl bs wt ab co so fc fp sa lv sh hf su : Nat → Int32} {wi : Nat → Int64} {x : Nat} (hx : x < 16) (h : post 0) : wpX_off post (nq, ni, qu, iv, ln, ct, pr, bb, bc, ra, dc, pi, qa, od, cl, bs, wt, ab, co, so, fc, fp, sa, lv, sh, hf, su, wi) (nI x) :=
  br_f (nI_pos (by omega)) (br_t (nI_lt (b := 16) hx (by decide)) h)
theorem jp_xoff1 {post : Int32 → Prop} {nq ni qu iv ln ct pr bb bc ra dc : Int32} {pi qa od cl bs wt ab co so fc fp sa lv sh hf su : Nat → Int32} {wi : Nat → Int64} {v : Int32} (hv : v < 0 ∨ (¬ v < 0 ∧ ¬ v < 16 ∧ 15 < v)) (h : post 1) : wpX_off post (nq, ni, qu, iv, ln, ct, pr, bb, bc, ra, dc, pi, qa, od, cl, bs, wt, ab, co, so, fc, fp, sa, lv, sh, hf, su, wi) v := by
  rcases hv with z | ⟨z1, z2, _⟩
  · exact br_t z h
  · exact br_f z1 (br_f z2 h)
theorem jp_xbg0 {post : Int32 → Prop} {nq ni qu iv ln ct pr bb bc ra dc : Int32} {pi qa od cl bs wt ab co so fc fp sa lv sh hf su : Nat → Int32} {wi : Nat → Int64} {x : Nat} (hx : x < 256) (h : post 0) : wpX_badGrey post (nq, ni, qu, iv, ln, ct, pr, bb, bc, ra, dc, pi, qa, od, cl, bs, wt, ab, co, so, fc, fp, sa, lv, sh, hf, su, wi) (nI x) :=
  br_f (nI_pos (by omega)) (br_t (nI_le (b := 255) (by omega) (by decide)) h)
theorem jp_xbg1 {post : Int32 → Prop} {nq ni qu iv ln ct pr bb bc ra dc : Int32} {pi qa od cl bs wt ab co so fc fp sa lv sh hf su : Nat → Int32} {wi : Nat → Int64} {v : Int32} (hv : v < 0 ∨ (¬ v < 0 ∧ ¬ v ≤ 255 ∧ 255 < v)) (h : post 1) : wpX_badGrey post (nq, ni, qu, iv, ln, ct, pr, bb, bc, ra, dc, pi, qa, od, cl, bs, wt, ab, co, so, fc, fp, sa, lv, sh, hf, su, wi) v := by
  rcases hv with z | ⟨z1, z2, _⟩
  · exact br_t z h
  · exact br_f z1 (br_f z2 h)
theorem jp_yisP1 {post : Int32 → Prop} {mq mi mu mv : Int32} {mp ml : Nat → Int32} {v w : Int32} (hv : v < 0 ∨ (¬ v < 0 ∧ ¬ v < 16 ∧ 15 < v)) (h : post 0) : wpY_isPixel post (mq, mi, mu, mv, mp, ml) v w := by
  rcases hv with z | ⟨z1, _, z2⟩
  · exact br_t z h
  · exact br_f z1 (br_t z2 h)
theorem jp_yisP2 {post : Int32 → Prop} {mq mi mu mv : Int32} {mp ml : Nat → Int32} {x : Nat} {w : Int32} (hx : x < 16) (hv : w < 0 ∨ (¬ w < 0 ∧ ¬ w < 16 ∧ 15 < w)) (h : post 0) : wpY_isPixel post (mq, mi, mu, mv, mp, ml) (nI x) w := by
  refine br_f (nI_pos (by omega)) (br_f (nI_nlt (by omega) (by decide) : ¬ nI 15 < nI x) ?_)
  rcases hv with z | ⟨z1, _, z2⟩
  · exact br_t z h
  · exact br_f z1 (br_t z2 h)
theorem jp_yisG {post : Int32 → Prop} {mq mi mu mv : Int32} {mp ml : Nat → Int32} {x : Nat} (hx : x < 256) (h : post 1) : wpY_isGrey post (mq, mi, mu, mv, mp, ml) (nI x) :=
  br_f (nI_pos (by omega)) (br_f (nI_nlt (by omega) (by decide) : ¬ nI 255 < nI x) h)
theorem jp_yisG0 {post : Int32 → Prop} {mq mi mu mv : Int32} {mp ml : Nat → Int32} {v : Int32} (hv : v < 0 ∨ (¬ v < 0 ∧ ¬ v ≤ 255 ∧ 255 < v)) (h : post 0) : wpY_isGrey post (mq, mi, mu, mv, mp, ml) v := by
  rcases hv with z | ⟨z1, _, z2⟩
  · exact br_t z h
  · exact br_f z1 (br_t z2 h)
theorem jp_ix {x y : Nat} : nI y * 16 + nI x = nI (16 * y + x) := by rw [show (16 : Int32) = nI 16 from rfl, pk_mul, nI_add, Nat.mul_comm]
theorem jp_iy {x y : Nat} : 16 * nI y + nI x = nI (16 * y + x) := by rw [show (16 : Int32) = nI 16 from rfl, pk_mul, nI_add]
/-! fill -/
def jp_fR (g : Int32) (y : Nat) : Nat → Nat → (Nat → Int32) → (Nat → Int32)
  | 0, _, a => a
  | d + 1, j, a => jp_fR g y d (j + 1) (upd a (16 * y + j) g)
def jp_fA (g : Int32) (x0 : Nat) : Nat → Nat → (Nat → Int32) → (Nat → Int32)
  | 0, _, a => a
  | d + 1, y, a => jp_fA g x0 d (y + 1) (jp_fR g y (16 - x0) x0 a)
def jp_Rg (a : Nat → Int32) : Prop := ∀ i, i < 256 → 0 ≤ (a i).toInt ∧ (a i).toInt ≤ 255
theorem jp_Rg_u {a : Nat → Int32} {k : Nat} {x : Int32} (h : jp_Rg a) (hx : 0 ≤ x.toInt ∧ x.toInt ≤ 255) : jp_Rg (upd a k x) := by
  intro i hi
  by_cases e : i = k
  · rw [e, pk_us]; exact hx
  · rw [pk_un e]; exact h i hi
theorem jp_Rg_R {g : Int32} {y : Nat} (hg : 0 ≤ g.toInt ∧ g.toInt ≤ 255) : ∀ (d j : Nat) (a : Nat → Int32), jp_Rg a → jp_Rg (jp_fR g y d j a)
  | 0, _, _, h => h
  | d + 1, j, _, h => jp_Rg_R hg d (j + 1) _ (jp_Rg_u h hg)
theorem jp_Rg_A {g : Int32} {x0 : Nat} (hg : 0 ≤ g.toInt ∧ g.toInt ≤ 255) : ∀ (d y : Nat) (a : Nat → Int32), jp_Rg a → jp_Rg (jp_fA g x0 d y a)
  | 0, _, _, h => h
  | d + 1, y, _, h => jp_Rg_A hg d (y + 1) _ (jp_Rg_R hg _ _ _ h)
theorem jp_xfi40 {post : Int32 → SX → Prop} {J : Int32 → (Nat → Int32) → (Nat → Int32) → (Nat → Int32) → (Nat → Int32) → (Nat → Int32) → (Nat → Int32) → (Nat → Int32) → (Nat → Int32) → (Nat → Int32) → (Nat → Int32) → (Nat → Int32) → (Nat → Int32) → (Nat → Int32) → (Nat → Int32) → (Nat → Int32) → (Nat → Int32) → (Nat → Int64) → Prop} {nq ni qu iv ln ct pr bb bc ra dc : Int32} {qa od cl bs wt ab co so fc fp sa lv sh hf su : Nat → Int32} {wi : Nat → Int64} {x1 g : Int32} {y : Nat} (hy : y < 16) : ∀ (d j : Nat) (pi : Nat → Int32), j + d = 16 → J (nI (y + 1)) (jp_fR g y d j pi) qa od cl bs wt ab co so fc fp sa lv sh hf su wi → wX_fill_40 post J x1 g (nI y) nq ni qu iv ln ct pr bb bc ra dc (d + 1) (nI j) pi qa od cl bs wt ab co so fc fp sa lv sh hf su wi := by
  intro d
  induction d with
  | zero =>
    intro j pi hj h
    obtain rfl : j = 16 := by omega
    exact br_t (by decide) (nm_r (nI_1 y) h)
  | succ d ih =>
    intro j pi hj h
    refine br_f (nI_ge (b := 16) (by omega) (by decide)) ?_
    rw [jp_ix, nI_clamp (by omega)]
    exact ⟨vp_in_nI (by omega) (by decide), nm_e (nm_r (nI_1 j) (ih (j + 1) _ (by omega) h))⟩
theorem jp_yfi33 {post : Int32 → SY → Prop} {J : Int32 → (Nat → Int32) → (Nat → Int32) → Prop} {mq mi mu mv : Int32} {ml : Nat → Int32} {x1 g : Int32} {y : Nat} (hy : y < 16) : ∀ (d j : Nat) (mp : Nat → Int32), j + d = 16 → J (nI (y + 1)) (jp_fR g y d j mp) ml → wY_fill_33 post J x1 g (nI y) mq mi mu mv (d + 1) (nI j) mp ml := by
  intro d
  induction d with
  | zero =>
    intro j pi hj h
    obtain rfl : j = 16 := by omega
    exact br_t (by decide) (nm_r (nI_1 y) h)
  | succ d ih =>
    intro j pi hj h
    refine br_f (nI_ge (b := 16) (by omega) (by decide)) ?_
    rw [jp_iy, nI_clamp (by omega)]
    exact ⟨vp_in_nI (by omega) (by decide), nm_e (nm_r (nI_1 j) (ih (j + 1) _ (by omega) h))⟩
theorem jp_xfi30 {post : Int32 → SX → Prop} {nq ni qu iv ln ct pr bb bc ra dc : Int32} {qa od cl bs wt ab co so fc fp sa lv sh hf su : Nat → Int32} {wi : Nat → Int64} {g : Int32} {x0 : Nat} (hx : x0 < 16) : ∀ (d y : Nat) (pi : Nat → Int32), y + d = 16 → post 0 (nq, ni, qu, iv, ln, ct, pr, bb, bc, ra, dc, jp_fA g x0 d y pi, qa, od, cl, bs, wt, ab, co, so, fc, fp, sa, lv, sh, hf, su, wi) → wX_fill_30 post (nI x0) g nq ni qu iv ln ct pr bb bc ra dc (d + 1) (nI y) pi qa od cl bs wt ab co so fc fp sa lv sh hf su wi := by
  intro d
  induction d with
  | zero =>
    intro y pi hy h
    obtain rfl : y = 16 := by omega
    exact br_t (by decide) h
  | succ d ih =>
    intro y pi hy h
    exact br_f (nI_ge (b := 16) (by omega) (by decide)) ⟨16 - x0 + 1, jp_xfi40 (by omega) (16 - x0) x0 pi (by omega) (ih (y + 1) _ (by omega) h)⟩
theorem jp_yfi23 {post : Int32 → SY → Prop} {mq mi mu mv : Int32} {ml : Nat → Int32} {g : Int32} {x0 : Nat} (hx : x0 < 16) : ∀ (d y : Nat) (mp : Nat → Int32), y + d = 16 → post 0 (mq, mi, mu, mv, jp_fA g x0 d y mp, ml) → wY_fill_23 post (nI x0) g mq mi mu mv (d + 1) (nI y) mp ml := by
  intro d
  induction d with
  | zero =>
    intro y pi hy h
    obtain rfl : y = 16 := by omega
    exact br_t (by decide) h
  | succ d ih =>
    intro y pi hy h
    exact br_f (nI_ge (b := 16) (by omega) (by decide)) ⟨16 - x0 + 1, jp_yfi33 (by omega) (16 - x0) x0 pi (by omega) (ih (y + 1) _ (by omega) h)⟩
/-! ramp -/
def jp_cl (g : Int32) : Int32 := if 0 ≤ g then (if g ≤ 255 then g else 255) else 0
theorem jp_cl_r (g : Int32) : 0 ≤ (jp_cl g).toInt ∧ (jp_cl g).toInt ≤ 255 := by
  unfold jp_cl
  by_cases h1 : 0 ≤ g
  · rw [if_pos h1]
    by_cases h2 : g ≤ 255
    · rw [if_pos h2]
      rw [Int32.le_iff_toInt_le, Int32.toInt_zero] at h1
      rw [Int32.le_iff_toInt_le, show (255 : Int32).toInt = 255 from by decide] at h2
      exact ⟨h1, h2⟩
    · rw [if_neg h2]; decide
  · rw [if_neg h1]; decide
theorem jp_xcl {post : Int32 → Prop} {nq ni qu iv ln ct pr bb bc ra dc : Int32} {pi qa od cl bs wt ab co so fc fp sa lv sh hf su : Nat → Int32} {wi : Nat → Int64} {g : Int32} (h : post (jp_cl g)) : wpX_clamp post (nq, ni, qu, iv, ln, ct, pr, bb, bc, ra, dc, pi, qa, od, cl, bs, wt, ab, co, so, fc, fp, sa, lv, sh, hf, su, wi) g := by
  unfold jp_cl at h
  refine br_c (fun z => br_c (fun z2 => ?_) (fun z2 => ?_)) (fun z => ?_)
  · rw [if_pos z, if_pos z2] at h; exact h
  · rw [if_pos z, if_neg z2] at h; exact h
  · rw [if_neg z] at h; exact h
theorem jp_ycl {post : Int32 → Prop} {mq mi mu mv : Int32} {mp ml : Nat → Int32} {g : Int32} (h : post (jp_cl g)) : wpY_clipped post (mq, mi, mu, mv, mp, ml) g := by
  unfold jp_cl at h
  refine br_c (fun z => br_c (fun z2 => ?_) (fun z2 => ?_)) (fun z => ?_)
  · rw [if_pos z, if_pos z2] at h; exact h
  · rw [if_pos z, if_neg z2] at h; exact h
  · rw [if_neg z] at h; exact h
def jp_rf (c a b : Int32) (i : Nat) : Int32 := jp_cl ((c + (a * nI (i % 16))) + (b * nI (i / 16)))
theorem jp_xra48 {post : Int32 → SX → Prop} {J : Int32 → (Nat → Int32) → (Nat → Int32) → (Nat → Int32) → (Nat → Int32) → (Nat → Int32) → (Nat → Int32) → (Nat → Int32) → (Nat → Int32) → (Nat → Int32) → (Nat → Int32) → (Nat → Int32) → (Nat → Int32) → (Nat → Int32) → (Nat → Int32) → (Nat → Int32) → (Nat → Int32) → (Nat → Int64) → Prop} {nq ni qu iv ln ct pr bb bc ra dc : Int32} {pi qa od cl bs wt ab co so fc fp sa lv sh hf su : Nat → Int32} {wi : Nat → Int64} {c a b : Int32} {y : Nat} (hy : y < 16) (hJ : J (nI (y + 1)) (jp_pu (jp_rf c a b) (16 * (y + 1)) pi) qa od cl bs wt ab co so fc fp sa lv sh hf su wi) :
    ∀ d j : Nat, j + d = 16 → wX_ramp_48 post J c a b (nI y) nq ni qu iv ln ct pr bb bc ra dc (d + 1) (nI j) (jp_pu (jp_rf c a b) (16 * y + j) pi) qa od cl bs wt ab co so fc fp sa lv sh hf su wi := by
  intro d
  induction d with
  | zero =>
    intro j hj
    obtain rfl : j = 16 := by omega
    exact br_t (by decide) (nm_r (nI_1 y) hJ)
  | succ d ih =>
    intro j hj
    refine br_f (nI_ge (b := 16) (by omega) (by decide)) (jp_xcl ?_)
    rw [jp_ix, nI_clamp (by omega)]
    refine ⟨vp_in_nI (by omega) (by decide), nm_r (jp_pu_s ?_) (nm_r (nI_1 j) (ih (j + 1) (by omega)))⟩
    unfold jp_rf
    rw [show (16 * y + j) % 16 = j by omega, show (16 * y + j) / 16 = y by omega]
theorem jp_xra38 {post : Int32 → SX → Prop} {nq ni qu iv ln ct pr bb bc ra dc : Int32} {pi qa od cl bs wt ab co so fc fp sa lv sh hf su : Nat → Int32} {wi : Nat → Int64} {c a b : Int32} (h : post 0 (nq, ni, qu, iv, ln, ct, pr, bb, bc, ra, dc, jp_pu (jp_rf c a b) 256 pi, qa, od, cl, bs, wt, ab, co, so, fc, fp, sa, lv, sh, hf, su, wi)) : ∀ d y : Nat, y + d = 16 → wX_ramp_38 post c a b nq ni qu iv ln ct pr bb bc ra dc (d + 1) (nI y) (jp_pu (jp_rf c a b) (16 * y) pi) qa od cl bs wt ab co so fc fp sa lv sh hf su wi := by
  intro d
  induction d with
  | zero =>
    intro y hy
    obtain rfl : y = 16 := by omega
    exact br_t (by decide) h
  | succ d ih =>
    intro y hy
    exact br_f (nI_ge (b := 16) (by omega) (by decide)) ⟨17, jp_xra48 (by omega) (ih (y + 1) (by omega)) 16 0 rfl⟩
theorem jp_yra38 {post : Int32 → SY → Prop} {mq mi mu mv : Int32} {mp ml : Nat → Int32} {c a b : Int32} (h : post 0 (mq, mi, mu, mv, jp_pu (jp_rf c a b) 256 mp, ml)) : ∀ d n : Nat, n + d = 256 → wY_ramp_38 post c a b mq mi mu mv (d + 1) (nI n) (jp_pu (jp_rf c a b) n mp) ml := by
  intro d
  induction d with
  | zero =>
    intro n hn
    obtain rfl : n = 256 := by omega
    exact br_t (by decide) h
  | succ d ih =>
    intro n hn
    refine br_f (nI_ge (b := 256) (by omega) (by decide)) ?_
    rw [pk_andN (n := n) (by omega) 4 (by decide), pk_shrN (n := n) (by omega) _ 4 (by decide), nI_clamp (by omega)]
    exact jp_ycl ⟨vp_in_nI (by omega) (by decide), nm_r (jp_pu_s rfl) (nm_r (nI_1 n) (ih (n + 1) (by omega)))⟩
/-! weave -/
def jp_wf (s : Nat) (pi : Nat → Int32) (i : Nat) : Int32 := if i % 16 / 2 ^ s % 2 = i / 16 / 2 ^ s % 2 then pi i else 255 - pi i
theorem jp_pu_k {F a : Nat → Int32} {n : Nat} (h : F n = a n) : jp_pu F (n + 1) a = jp_pu F n a := by
  funext i
  by_cases e : i = n
  · rw [e, jp_pu_lt (Nat.lt_succ_self n), jp_pu_ge (Nat.le_refl n), h]
  · by_cases z : i < n
    · rw [jp_pu_lt z, jp_pu_lt (by omega)]
    · rw [jp_pu_ge (by omega), jp_pu_ge (by omega)]
theorem jp_dg {x s : Nat} (hx : x < 256) (hs : s < 4) : (nI x >>> (nI s &&& 31)) &&& 1 = nI (x / 2 ^ s % 2) := by
  have : x / 2 ^ s ≤ x := Nat.div_le_self _ _
  rw [pk_shrN (by omega) _ s (jp_sc s (by omega)), pk_andN (by omega) 1 (by decide)]
theorem jp_xwe22 {post : Int32 → SX → Prop} {J : Int32 → (Nat → Int32) → (Nat → Int32) → (Nat → Int32) → (Nat → Int32) → (Nat → Int32) → (Nat → Int32) → (Nat → Int32) → (Nat → Int32) → (Nat → Int32) → (Nat → Int32) → (Nat → Int32) → (Nat → Int32) → (Nat → Int32) → (Nat → Int32) → (Nat → Int32) → (Nat → Int32) → (Nat → Int64) → Prop} {nq ni qu iv ln ct pr bb bc ra dc : Int32} {pi qa od cl bs wt ab co so fc fp sa lv sh hf su : Nat → Int32} {wi : Nat → Int64} {s y : Nat} (hs : s < 4) (hy : y < 16) (hJ : J (nI (y + 1)) (jp_pu (jp_wf s pi) (16 * (y + 1)) pi) qa od cl bs wt ab co so fc fp sa lv sh hf su wi) :
    ∀ d j : Nat, j + d = 16 → wX_weave_22 post J (nI s) (nI y) nq ni qu iv ln ct pr bb bc ra dc (d + 1) (nI j) (jp_pu (jp_wf s pi) (16 * y + j) pi) qa od cl bs wt ab co so fc fp sa lv sh hf su wi := by
  intro d
  induction d with
  | zero =>
    intro j hj
    obtain rfl : j = 16 := by omega
    exact br_t (by decide) (nm_r (nI_1 y) hJ)
  | succ d ih =>
    intro j hj
    refine br_f (nI_ge (b := 16) (by omega) (by decide)) ?_
    rw [jp_dg (by omega) hs, jp_dg (by omega) hs, jp_ix, nI_clamp (by omega)]
    have a1 : (16 * y + j) % 16 = j := by omega
    have a2 : (16 * y + j) / 16 = y := by omega
    refine pk_eq (j / 2 ^ s % 2) (y / 2 ^ s % 2) (fun z => nm_r (nI_1 j) ?_) (fun z => ⟨vp_in_nI (by omega) (by decide), vp_in_nI (by omega) (by decide), nm_r (jp_pu_s ?_) (nm_r (nI_1 j) (ih (j + 1) (by omega)))⟩)
    · have k := ih (j + 1) (by omega)
      rw [← Nat.add_assoc, jp_pu_k] at k
      · exact k
      · unfold jp_wf
        rw [a1, a2, if_pos z]
    · rw [jp_pu_ge (Nat.le_refl _)]
      unfold jp_wf
      rw [a1, a2, if_neg z]
theorem jp_xwe14 {post : Int32 → SX → Prop} {nq ni qu iv ln ct pr bb bc ra dc : Int32} {pi qa od cl bs wt ab co so fc fp sa lv sh hf su : Nat → Int32} {wi : Nat → Int64} {s : Nat} (hs : s < 4) (h : post 0 (nq, ni, qu, iv, ln, ct, pr, bb, bc, ra, dc, jp_pu (jp_wf s pi) 256 pi, qa, od, cl, bs, wt, ab, co, so, fc, fp, sa, lv, sh, hf, su, wi)) : ∀ d y : Nat, y + d = 16 → wX_weave_14 post (nI s) nq ni qu iv ln ct pr bb bc ra dc (d + 1) (nI y) (jp_pu (jp_wf s pi) (16 * y) pi) qa od cl bs wt ab co so fc fp sa lv sh hf su wi := by
  intro d
  induction d with
  | zero =>
    intro y hy
    obtain rfl : y = 16 := by omega
    exact br_t (by decide) h
  | succ d ih =>
    intro y hy
    exact br_f (nI_ge (b := 16) (by omega) (by decide)) ⟨17, jp_xwe22 hs (by omega) (ih (y + 1) (by omega)) 16 0 rfl⟩
theorem jp_ywe14 {post : Int32 → SY → Prop} {mq mi mu mv : Int32} {mp ml : Nat → Int32} {s : Nat} (hs : s < 4) (h : post 0 (mq, mi, mu, mv, jp_pu (jp_wf s mp) 256 mp, ml)) : ∀ d n : Nat, n + d = 256 → wY_weave_14 post (nI s) mq mi mu mv (d + 1) (nI n) (jp_pu (jp_wf s mp) n mp) ml := by
  intro d
  induction d with
  | zero =>
    intro n hn
    obtain rfl : n = 256 := by omega
    exact br_t (by decide) h
  | succ d ih =>
    intro n hn
    refine br_f (nI_ge (b := 256) (by omega) (by decide)) ?_
    rw [pk_andN (n := n) (by omega) 4 (by decide), pk_shrN (n := n) (by omega) _ 4 (by decide), jp_dg (by omega) hs, jp_dg (by omega) hs, nI_add, nI_clamp (by omega)]
    refine nm_e (pk_eq (n % 2 ^ 4 / 2 ^ s % 2 + n / 2 ^ 4 / 2 ^ s % 2) 1 (fun z => ⟨vp_in_nI (by omega) (by decide), vp_in_nI (by omega) (by decide), nm_r (jp_pu_s ?_) (nm_r (nI_1 n) (ih (n + 1) (by omega)))⟩) (fun z => nm_r (nI_1 n) ?_))
    · rw [jp_pu_ge (Nat.le_refl _)]
      have z : n % 16 / 2 ^ s % 2 + n / 16 / 2 ^ s % 2 = 1 := z
      unfold jp_wf
      rw [if_neg (by intro q; rw [q] at z; omega)]
    · have z : ¬ n % 16 / 2 ^ s % 2 + n / 16 / 2 ^ s % 2 = 1 := z
      have k := ih (n + 1) (by omega)
      rw [jp_pu_k] at k
      · exact k
      · unfold jp_wf
        have l1 : n % 16 / 2 ^ s % 2 < 2 := Nat.mod_lt _ (by decide)
        have l2 : n / 16 / 2 ^ s % 2 < 2 := Nat.mod_lt _ (by decide)
        generalize n % 16 / 2 ^ s % 2 = A at *
        generalize n / 16 / 2 ^ s % 2 = B at *
        rw [if_pos (by omega)]
end
section
/-! the relation -/
def jp_R (nq ni qu iv ln dc : Int32) (pi qa od bs so fc fp sa lv sh ml : Nat → Int32) : Prop :=
  (∃ q, nq = nI q ∧ 1 ≤ q ∧ q ≤ 8) ∧ (∃ r, ni = nI r ∧ 1 ≤ r ∧ r ≤ 4) ∧
  (∃ (q r Ln : Nat) (C N p : Nat → Nat), qu = nI q ∧ 1 ≤ q ∧ q ≤ 8 ∧ iv = nI r ∧ 1 ≤ r ∧ r ≤ 4 ∧ ln = nI Ln ∧ jp_Stored r ml bs so fc fp sa C N p Ln) ∧
  jp_Rg pi ∧ (∀ t, t < 9 → qa t = jp_qI t) ∧ (∀ k, k < 64 → od k = nI (jp_zg k)) ∧ (∀ i, i < 256 → jp_ab (ml i) ≤ 2048) ∧
  (¬ dc = 0 → (∀ i, i < 256 → lv i = ml i) ∧ ∀ n, n < 256 → sh n = jp_sh qu ml n)
def i_Rel (_ : Nat) (u : SX) (v : SY) : Prop := match u, v with
  | (nq, ni, qu, iv, ln, ct, pr, bb, bc, ra, dc, pi, qa, od, cl, bs, wt, ab, co, so, fc, fp, sa, lv, sh, hf, su, wi), (mq, mi, mu, mv, mp, ml) => nq = mq ∧ ni = mi ∧ qu = mu ∧ iv = mv ∧ pi = mp ∧ jp_R nq ni qu iv ln dc pi qa od bs so fc fp sa lv sh ml
theorem i_up {k : Nat} {u : SX} {v : SY} (h : i_Rel k u v) : i_Rel (k + 4) u v := h
theorem jp_el {k : Nat} {P : SX → SY → Prop} (h : ∀ (nq ni qu iv ln ct pr bb bc ra dc : Int32) (pi qa od cl bs wt ab co so fc fp sa lv sh hf su : Nat → Int32) (wi : Nat → Int64) (ml : Nat → Int32), jp_R nq ni qu iv ln dc pi qa od bs so fc fp sa lv sh ml → P (nq, ni, qu, iv, ln, ct, pr, bb, bc, ra, dc, pi, qa, od, cl, bs, wt, ab, co, so, fc, fp, sa, lv, sh, hf, su, wi) (nq, ni, qu, iv, pi, ml)) :
    ∀ (u : SX) (v : SY), i_Rel k u v → P u v
  | (nq, ni, qu, iv, ln, ct, pr, bb, bc, ra, dc, pi, qa, od, cl, bs, wt, ab, co, so, fc, fp, sa, lv, sh, hf, su, wi), (_, _, _, _, _, ml), ⟨rfl, rfl, rfl, rfl, rfl, R⟩ => h nq ni qu iv ln ct pr bb bc ra dc pi qa od cl bs wt ab co so fc fp sa lv sh hf su wi ml R
theorem jp_in {k : Nat} {nq ni qu iv ln ct pr bb bc ra dc : Int32} {pi qa od cl bs wt ab co so fc fp sa lv sh hf su : Nat → Int32} {wi : Nat → Int64} {ml : Nat → Int32} (R : jp_R nq ni qu iv ln dc pi qa od bs so fc fp sa lv sh ml) : i_Rel k (nq, ni, qu, iv, ln, ct, pr, bb, bc, ra, dc, pi, qa, od, cl, bs, wt, ab, co, so, fc, fp, sa, lv, sh, hf, su, wi) (nq, ni, qu, iv, pi, ml) := ⟨rfl, rfl, rfl, rfl, rfl, R⟩
theorem jp_R_pi {nq ni qu iv ln dc : Int32} {pi pi' qa od bs so fc fp sa lv sh ml : Nat → Int32} (R : jp_R nq ni qu iv ln dc pi qa od bs so fc fp sa lv sh ml) (h : jp_Rg pi') : jp_R nq ni qu iv ln dc pi' qa od bs so fc fp sa lv sh ml := by
  obtain ⟨h1, h2, h3, h4, h5, h6, h7, h8⟩ := R
  exact ⟨h1, h2, h3, h, h5, h6, h7, h8⟩
/-! put, fill, pixel -/
theorem i_vc_put {k : Nat} {u : SX} {v : SY} (I : i_Rel k u v) (hk : k + 4 ≤ 2048) (v1 : Int32) (v2 : Int32) (v3 : Int32) : wpX_put (fun r u' => wpY_put (fun r' v' => r' = r ∧ i_Rel (k + 4) u' v') v v1 v2 v3) u v1 v2 v3 := by
  refine jp_el (P := fun u v => wpX_put (fun r u' => wpY_put (fun r' v' => r' = r ∧ i_Rel (k + 4) u' v') v v1 v2 v3) u v1 v2 v3) ?_ u v I
  intro nq ni qu iv ln ct pr bb bc ra dc pi qa od cl bs wt ab co so fc fp sa lv sh hf su wi ml R
  unfold wpX_put wpY_put
  dsimp only
  rcases jp_c16 v1 with ⟨x, hx, rfl⟩ | b1
  · refine jp_xoff0 hx (br_t rfl ?_)
    rcases jp_c16 v2 with ⟨y, hy, rfl⟩ | b2
    · refine jp_xoff0 hy (br_t rfl ?_)
      rcases jp_c256 v3 with ⟨g, hg, rfl⟩ | b3
      · refine jp_xbg0 hg (br_t rfl ?_)
        have hi : vp_in (nI (16 * y + x)) 256 := vp_in_nI (by omega) (by decide)
        rw [jp_ix, jp_iy, nI_clamp (by omega)]
        refine ⟨hi, nm_e ⟨hi, nm_e (jp_yisP hx hy (br_f (by decide) (jp_yisG hg (br_f (by decide) ⟨hi, nm_e ⟨hi, nm_e ⟨rfl, jp_in (jp_R_pi R (jp_Rg_u R.2.2.2.1 ?_))⟩⟩⟩))))⟩⟩
        rw [nI_toInt (by omega)]; omega
      · exact jp_xbg1 b3 (br_f (by decide) (jp_yisP hx hy (br_f (by decide) (jp_yisG0 b3 (br_t rfl ⟨rfl, jp_in R⟩)))))
    · exact jp_xoff1 b2 (br_f (by decide) (jp_yisP2 hx b2 (br_t rfl ⟨rfl, jp_in R⟩)))
  · exact jp_xoff1 b1 (br_f (by decide) (jp_yisP1 b1 (br_t rfl ⟨rfl, jp_in R⟩)))
theorem i_vc_fill {k : Nat} {u : SX} {v : SY} (I : i_Rel k u v) (hk : k + 4 ≤ 2048) (v1 : Int32) (v2 : Int32) (v3 : Int32) : wpX_fill (fun r u' => wpY_fill (fun r' v' => r' = r ∧ i_Rel (k + 4) u' v') v v1 v2 v3) u v1 v2 v3 := by
  refine jp_el (P := fun u v => wpX_fill (fun r u' => wpY_fill (fun r' v' => r' = r ∧ i_Rel (k + 4) u' v') v v1 v2 v3) u v1 v2 v3) ?_ u v I
  intro nq ni qu iv ln ct pr bb bc ra dc pi qa od cl bs wt ab co so fc fp sa lv sh hf su wi ml R
  unfold wpX_fill wpY_fill
  dsimp only
  rcases jp_c16 v1 with ⟨x, hx, rfl⟩ | b1
  · refine jp_xoff0 hx (br_t rfl ?_)
    rcases jp_c16 v2 with ⟨y, hy, rfl⟩ | b2
    · refine jp_xoff0 hy (br_t rfl ?_)
      rcases jp_c256 v3 with ⟨g, hg, rfl⟩ | b3
      · refine jp_xbg0 hg (br_t rfl ⟨16 - y + 1, jp_xfi30 hx (16 - y) y pi (by omega) ?_⟩)
        refine jp_yisP hx hy (br_f (by decide) (jp_yisG hg (br_f (by decide) ⟨16 - y + 1, jp_yfi23 hx (16 - y) y pi (by omega) ⟨rfl, jp_in (jp_R_pi R (jp_Rg_A ?_ _ _ _ R.2.2.2.1))⟩⟩)))
        rw [nI_toInt (by omega)]; omega
      · exact jp_xbg1 b3 (br_f (by decide) (jp_yisP hx hy (br_f (by decide) (jp_yisG0 b3 (br_t rfl ⟨rfl, jp_in R⟩)))))
    · exact jp_xoff1 b2 (br_f (by decide) (jp_yisP2 hx b2 (br_t rfl ⟨rfl, jp_in R⟩)))
  · exact jp_xoff1 b1 (br_f (by decide) (jp_yisP1 b1 (br_t rfl ⟨rfl, jp_in R⟩)))
theorem i_vc_pixel {k : Nat} {u : SX} {v : SY} (I : i_Rel k u v) (hk : k + 4 ≤ 2048) (v1 : Int32) (v2 : Int32) : wpX_pixel (fun r => wpY_pixel (fun r' => r' = r ∧ i_Rel (k + 4) u v) v v1 v2) u v1 v2 := by
  refine jp_el (P := fun u v => wpX_pixel (fun r => wpY_pixel (fun r' => r' = r ∧ i_Rel (k + 4) u v) v v1 v2) u v1 v2) ?_ u v I
  intro nq ni qu iv ln ct pr bb bc ra dc pi qa od cl bs wt ab co so fc fp sa lv sh hf su wi ml R
  unfold wpX_pixel wpY_pixel
  dsimp only
  rcases jp_c16 v1 with ⟨x, hx, rfl⟩ | b1
  · refine jp_xoff0 hx (br_t rfl ?_)
    rcases jp_c16 v2 with ⟨y, hy, rfl⟩ | b2
    · have hi : vp_in (nI (16 * y + x)) 256 := vp_in_nI (by omega) (by decide)
      refine jp_xoff0 hy (br_t rfl ?_)
      rw [jp_ix, jp_iy]
      exact ⟨hi, jp_yisP hx hy (br_f (by decide) ⟨hi, rfl, jp_in R⟩)⟩
    · exact jp_xoff1 b2 (br_f (by decide) (jp_yisP2 hx b2 (br_t rfl ⟨rfl, jp_in R⟩)))
  · exact jp_xoff1 b1 (br_f (by decide) (jp_yisP1 b1 (br_t rfl ⟨rfl, jp_in R⟩)))
/-! quality, interval -/
theorem jp_rng {v : Int32} {m : Nat} (hm : m < 100) (h1 : ¬ v < 1) (h2 : v ≤ nI m) : ∃ q, v = nI q ∧ 1 ≤ q ∧ q ≤ m := by
  rw [Int32.lt_iff_toInt_lt, show (1 : Int32).toInt = 1 from by decide] at h1
  rw [Int32.le_iff_toInt_le, nI_toInt (by omega)] at h2
  refine ⟨v.toInt.toNat, Int32.toInt_inj.mp ?_, by omega, by omega⟩
  rw [nI_toInt (by omega)]; omega
theorem i_vc_quality {k : Nat} {u : SX} {v : SY} (I : i_Rel k u v) (hk : k + 4 ≤ 2048) (v1 : Int32) : wpX_quality (fun r u' => wpY_quality (fun r' v' => r' = r ∧ i_Rel (k + 4) u' v') v v1) u v1 := by
  refine jp_el (P := fun u v => wpX_quality (fun r u' => wpY_quality (fun r' v' => r' = r ∧ i_Rel (k + 4) u' v') v v1) u v1) ?_ u v I
  intro nq ni qu iv ln ct pr bb bc ra dc pi qa od cl bs wt ab co so fc fp sa lv sh hf su wi ml R
  unfold wpX_quality wpY_quality
  dsimp only
  refine br_c (fun z => br_t z ⟨rfl, jp_in R⟩) (fun z => br_c (fun z2 => br_f z (br_t z2 ⟨rfl, jp_in ?_⟩)) (fun z2 => br_f z (br_f z2 ⟨rfl, jp_in R⟩)))
  obtain ⟨h1, h2, h3, h4, h5, h6, h7, h8⟩ := R
  exact ⟨jp_rng (m := 8) (by decide) z z2, h2, h3, h4, h5, h6, h7, h8⟩
theorem i_vc_interval {k : Nat} {u : SX} {v : SY} (I : i_Rel k u v) (hk : k + 4 ≤ 2048) (v1 : Int32) : wpX_interval (fun r u' => wpY_interval (fun r' v' => r' = r ∧ i_Rel (k + 4) u' v') v v1) u v1 := by
  refine jp_el (P := fun u v => wpX_interval (fun r u' => wpY_interval (fun r' v' => r' = r ∧ i_Rel (k + 4) u' v') v v1) u v1) ?_ u v I
  intro nq ni qu iv ln ct pr bb bc ra dc pi qa od cl bs wt ab co so fc fp sa lv sh hf su wi ml R
  unfold wpX_interval wpY_interval
  dsimp only
  refine br_c (fun z => br_t z ⟨rfl, jp_in R⟩) (fun z => br_c (fun z2 => br_f z (br_t z2 ⟨rfl, jp_in ?_⟩)) (fun z2 => br_f z (br_f z2 ⟨rfl, jp_in R⟩)))
  obtain ⟨h1, h2, h3, h4, h5, h6, h7, h8⟩ := R
  exact ⟨h1, jp_rng (m := 4) (by decide) z z2, h3, h4, h5, h6, h7, h8⟩
/-! ramp, weave -/
theorem jp_xra0 {post : Int32 → SX → Prop} {nq ni qu iv ln ct pr bb bc ra dc : Int32} {pi qa od cl bs wt ab co so fc fp sa lv sh hf su : Nat → Int32} {wi : Nat → Int64} {c a b : Int32} (h : post 0 (nq, ni, qu, iv, ln, ct, pr, bb, bc, ra, dc, jp_pu (jp_rf c a b) 256 pi, qa, od, cl, bs, wt, ab, co, so, fc, fp, sa, lv, sh, hf, su, wi)) : wX_ramp_38 post c a b nq ni qu iv ln ct pr bb bc ra dc 17 0 pi qa od cl bs wt ab co so fc fp sa lv sh hf su wi := by
  have k := jp_xra38 (nq := nq) (ni := ni) (qu := qu) (iv := iv) (ln := ln) (ct := ct) (pr := pr) (bb := bb) (bc := bc) (ra := ra) (dc := dc) (pi := pi) (qa := qa) (od := od) (cl := cl) (bs := bs) (wt := wt) (ab := ab) (co := co) (so := so) (fc := fc) (fp := fp) (sa := sa) (lv := lv) (sh := sh) (hf := hf) (su := su) (wi := wi) h 16 0 rfl
  rw [Nat.mul_zero, jp_pu_0] at k
  exact k
theorem jp_yra0 {post : Int32 → SY → Prop} {mq mi mu mv : Int32} {mp ml : Nat → Int32} {c a b : Int32} (h : post 0 (mq, mi, mu, mv, jp_pu (jp_rf c a b) 256 mp, ml)) : wY_ramp_38 post c a b mq mi mu mv 257 0 mp ml := by
  have k := jp_yra38 (mq := mq) (mi := mi) (mu := mu) (mv := mv) (mp := mp) (ml := ml) h 256 0 rfl
  rw [jp_pu_0] at k
  exact k
theorem jp_xwe0 {post : Int32 → SX → Prop} {nq ni qu iv ln ct pr bb bc ra dc : Int32} {pi qa od cl bs wt ab co so fc fp sa lv sh hf su : Nat → Int32} {wi : Nat → Int64} {s : Nat} (hs : s < 4) (h : post 0 (nq, ni, qu, iv, ln, ct, pr, bb, bc, ra, dc, jp_pu (jp_wf s pi) 256 pi, qa, od, cl, bs, wt, ab, co, so, fc, fp, sa, lv, sh, hf, su, wi)) : wX_weave_14 post (nI s) nq ni qu iv ln ct pr bb bc ra dc 17 0 pi qa od cl bs wt ab co so fc fp sa lv sh hf su wi := by
  have k := jp_xwe14 (nq := nq) (ni := ni) (qu := qu) (iv := iv) (ln := ln) (ct := ct) (pr := pr) (bb := bb) (bc := bc) (ra := ra) (dc := dc) (pi := pi) (qa := qa) (od := od) (cl := cl) (bs := bs) (wt := wt) (ab := ab) (co := co) (so := so) (fc := fc) (fp := fp) (sa := sa) (lv := lv) (sh := sh) (hf := hf) (su := su) (wi := wi) hs h 16 0 rfl
  rw [Nat.mul_zero, jp_pu_0] at k
  exact k
theorem jp_ywe0 {post : Int32 → SY → Prop} {mq mi mu mv : Int32} {mp ml : Nat → Int32} {s : Nat} (hs : s < 4) (h : post 0 (mq, mi, mu, mv, jp_pu (jp_wf s mp) 256 mp, ml)) : wY_weave_14 post (nI s) mq mi mu mv 257 0 mp ml := by
  have k := jp_ywe14 (mq := mq) (mi := mi) (mu := mu) (mv := mv) (mp := mp) (ml := ml) hs h 256 0 rfl
  rw [jp_pu_0] at k
  exact k
theorem i_vc_ramp {k : Nat} {u : SX} {v : SY} (I : i_Rel k u v) (hk : k + 4 ≤ 2048) (v1 : Int32) (v2 : Int32) (v3 : Int32) : wpX_ramp (fun r u' => wpY_ramp (fun r' v' => r' = r ∧ i_Rel (k + 4) u' v') v v1 v2 v3) u v1 v2 v3 := by
  refine jp_el (P := fun u v => wpX_ramp (fun r u' => wpY_ramp (fun r' v' => r' = r ∧ i_Rel (k + 4) u' v') v v1 v2 v3) u v1 v2 v3) ?_ u v I
  intro nq ni qu iv ln ct pr bb bc ra dc pi qa od cl bs wt ab co so fc fp sa lv sh hf su wi ml R
  unfold wpX_ramp wpY_ramp
  dsimp only
  rcases jp_c256 v1 with ⟨g, hg, rfl⟩ | b1
  · refine jp_xbg0 hg (br_t rfl ?_)
    refine br_c (fun z1 => jp_yisG hg (br_f (by decide) (br_t z1 ⟨rfl, jp_in R⟩))) (fun z1 => ?_)
    refine br_c (fun z2 => jp_yisG hg (br_f (by decide) (br_f z1 (br_t z2 ⟨rfl, jp_in R⟩)))) (fun z2 => ?_)
    refine br_c (fun z3 => jp_yisG hg (br_f (by decide) (br_f z1 (br_f z2 (br_t z3 ⟨rfl, jp_in R⟩))))) (fun z3 => ?_)
    refine br_c (fun z4 => ⟨17, jp_xra0 ?_⟩) (fun z4 => jp_yisG hg (br_f (by decide) (br_f z1 (br_f z2 (br_f z3 (br_f z4 ⟨rfl, jp_in R⟩))))))
    have R' := jp_R_pi (pi' := jp_pu (jp_rf (nI g) v2 v3) 256 pi) R (fun i hi => by rw [jp_pu_lt hi]; exact jp_cl_r _)
    exact jp_yisG hg (br_f (by decide) (br_f z1 (br_f z2 (br_f z3 (br_t z4 ⟨257, jp_yra0 ⟨rfl, jp_in R'⟩⟩)))))
  · exact jp_xbg1 b1 (br_f (by decide) (jp_yisG0 b1 (br_t rfl ⟨rfl, jp_in R⟩)))
theorem jp_wf_r {s : Nat} {pi : Nat → Int32} (h : jp_Rg pi) : jp_Rg (jp_pu (jp_wf s pi) 256 pi) := by
  intro i hi
  rw [jp_pu_lt hi]
  unfold jp_wf
  have := h i hi
  split
  · exact this
  · rw [Int32.toInt_sub, show (255 : Int32).toInt = 255 from by decide, Int.bmod_eq_of_le (by omega) (by omega)]
    omega
theorem i_vc_weave {k : Nat} {u : SX} {v : SY} (I : i_Rel k u v) (hk : k + 4 ≤ 2048) (v1 : Int32) : wpX_weave (fun r u' => wpY_weave (fun r' v' => r' = r ∧ i_Rel (k + 4) u' v') v v1) u v1 := by
  refine jp_el (P := fun u v => wpX_weave (fun r u' => wpY_weave (fun r' v' => r' = r ∧ i_Rel (k + 4) u' v') v v1) u v1) ?_ u v I
  intro nq ni qu iv ln ct pr bb bc ra dc pi qa od cl bs wt ab co so fc fp sa lv sh hf su wi ml R
  unfold wpX_weave wpY_weave
  dsimp only
  refine br_c (fun z => br_t z ⟨rfl, jp_in R⟩) (fun z => br_c (fun z2 => ?_) (fun z2 => br_f z (br_f z2 ⟨rfl, jp_in R⟩)))
  obtain ⟨s, hs, rfl⟩ := nI_of2 (n := 3) (by decide) z z2
  exact ⟨17, jp_xwe0 (by omega) (br_f z (br_t z2 ⟨257, jp_ywe0 (by omega) ⟨rfl, jp_in (jp_R_pi R (jp_wf_r R.2.2.2.1))⟩⟩))⟩
end
section
/-! store, lose, weight -/
theorem i_vc_store {k : Nat} {u : SX} {v : SY} (I : i_Rel k u v) (hk : k + 4 ≤ 2048) : wpX_store (fun r u' => wpY_store (fun r' v' => r' = r ∧ i_Rel (k + 4) u' v') v) u := by
  refine jp_el (P := fun u v => wpX_store (fun r u' => wpY_store (fun r' v' => r' = r ∧ i_Rel (k + 4) u' v') v) u) ?_ u v I
  intro nq ni qu iv ln ct pr bb bc ra dc pi qa od cl bs wt ab co so fc fp sa lv sh hf su wi ml R
  obtain ⟨⟨q, eq, q1, q8⟩, ⟨r, er, r1, r4⟩, h3, h4, h5, h6, h7, h8⟩ := R
  refine jp_xstore h5 h6 er r1 r4 eq q1 q8 h4 (fun ln' ct' pr' bb' bc' ra' dc' cl' bs' wt' ab' co' so' fc' fp' sa' lv' sh' hf' su' wi' C N p Ln a1 a2 a3 => ?_)
  refine jp_ystore eq q1 q8 (fun ml' hm => ⟨?_, jp_in ⟨⟨q, eq, q1, q8⟩, ⟨r, er, r1, r4⟩, ⟨q, r, Ln, C, N, p, eq, q1, q8, er, r1, r4, a1, jp_Stored_congr (fun i hi => (hm i hi).symm) r1 a2⟩, h4, h5, h6, fun i hi => ?_, fun z => ⟨fun i hi => ?_, fun n hn => ?_⟩⟩⟩)
  · exact congrArg nI (jp_sN_congr fun b hb => jp_nz_congr hm hb)
  · rw [hm i hi, eq]; exact jp_L_bd h4 q1 q8 hi
  · rw [(a3 z).1 i hi, hm i hi]
  · rw [(a3 z).2 n hn]; exact jp_sh_congr (fun i hi => (hm i hi).symm) hn
theorem i_vc_lose {k : Nat} {u : SX} {v : SY} (I : i_Rel k u v) (hk : k + 4 ≤ 2048) (v1 : Int32) : wpX_lose (fun r u' => wpY_lose (fun r' v' => r' = r ∧ i_Rel (k + 4) u' v') v v1) u v1 := by
  refine jp_el (P := fun u v => wpX_lose (fun r u' => wpY_lose (fun r' v' => r' = r ∧ i_Rel (k + 4) u' v') v v1) u v1) ?_ u v I
  intro nq ni qu iv ln ct pr bb bc ra dc pi qa od cl bs wt ab co so fc fp sa lv sh hf su wi ml R
  by_cases z : v1 < 0
  · exact br_t z (br_t z ⟨rfl, jp_in R⟩)
  · by_cases z2 : v1 ≤ 3
    · obtain ⟨b, hb, rfl⟩ := nI_of2 (n := 3) (by decide) z z2
      obtain ⟨h1, h2, ⟨q, r, Ln, C, N, p, eq, q1, q8, er, r1, r4, eln, hS⟩, h4, h5, h6, h7, h8⟩ := R
      obtain ⟨L', hL'⟩ : ∃ L' : Nat → Int32, ∀ i, L' i = if i / 64 / r = b / r then 0 else ml i := ⟨_, fun _ => rfl⟩
      refine jp_xlose (L' := L') h5 h6 eln er r1 r4 eq q1 q8 h7 hS h8 (by omega) (fun i _ hi => by rw [hL', if_pos hi]) (fun i _ hi => by rw [hL', if_neg hi]) (fun ln' bs' pr' bb' bc' ra' lv' sh' wi' p' Ln' a1 a2 => ?_)
      refine jp_ylose er r1 r4 (by omega) (fun ml' m0 m1 => ⟨rfl, jp_in ⟨h1, h2, ⟨q, r, Ln', C, N, p', eq, q1, q8, er, r1, r4, a1, jp_Stored_congr (fun i hi => ?_) r1 a2⟩, h4, h5, h6, fun i hi => ?_, fun z => absurd rfl z⟩⟩)
      · rw [hL']
        by_cases g : i / 64 / r = b / r
        · rw [if_pos g, m0 i hi g]
        · rw [if_neg g, m1 i hi g]
      · by_cases g : i / 64 / r = b / r
        · rw [m0 i hi g, jp_ab0]; omega
        · rw [m1 i hi g]; exact h7 i hi
    · exact br_f z (br_f z2 (br_f z (br_f z2 ⟨rfl, jp_in R⟩)))
theorem i_vc_weight {k : Nat} {u : SX} {v : SY} (I : i_Rel k u v) (hk : k + 4 ≤ 2048) (v1 : Int32) : wpX_weight (fun r u' => wpY_weight (fun r' => r' = r ∧ i_Rel (k + 4) u' v) v v1) u v1 := by
  refine jp_el (P := fun u v => wpX_weight (fun r u' => wpY_weight (fun r' => r' = r ∧ i_Rel (k + 4) u' v) v v1) u v1) ?_ u v I
  intro nq ni qu iv ln ct pr bb bc ra dc pi qa od cl bs wt ab co so fc fp sa lv sh hf su wi ml R
  by_cases z : v1 < 0
  · exact br_t z (br_t z ⟨rfl, jp_in R⟩)
  · by_cases z2 : v1 ≤ 3
    · obtain ⟨b, hb, rfl⟩ := nI_of2 (n := 3) (by decide) z z2
      obtain ⟨h1, h2, ⟨q, r, Ln, C, N, p, eq, q1, q8, er, r1, r4, eln, hS⟩, h4, h5, h6, h7, h8⟩ := R
      exact jp_xweight h5 h6 eln er r1 r4 eq q1 q8 h7 hS h8 (by omega) (fun pr' bb' bc' ra' dc' lv' sh' wi' a1 a2 a3 => jp_yweight (by omega) ⟨rfl, jp_in ⟨h1, h2, ⟨q, r, Ln, C, N, p, eq, q1, q8, er, r1, r4, eln, hS⟩, h4, h5, h6, h7, fun _ => ⟨a2, a3⟩⟩⟩)
    · exact br_f z (br_f z2 (br_f z (br_f z2 ⟨rfl, jp_in R⟩)))
/-! level, show, difference, adopt -/
theorem jp_R_dec {nq ni qu iv ln dc dc' : Int32} {pi qa od bs so fc fp sa lv sh lv' sh' ml : Nat → Int32} (R : jp_R nq ni qu iv ln dc pi qa od bs so fc fp sa lv sh ml) (h : ¬ dc' = 0 → (∀ i, i < 256 → lv' i = ml i) ∧ ∀ n, n < 256 → sh' n = jp_sh qu ml n) : jp_R nq ni qu iv ln dc' pi qa od bs so fc fp sa lv' sh' ml := by
  obtain ⟨h1, h2, h3, h4, h5, h6, h7, h8⟩ := R
  exact ⟨h1, h2, h3, h4, h5, h6, h7, h⟩
theorem jp_xdec {post : SX → Prop} {nq ni qu iv ln ct pr bb bc ra dc : Int32} {pi qa od cl bs wt ab co so fc fp sa lv sh hf su : Nat → Int32} {wi : Nat → Int64} {ml : Nat → Int32} (R : jp_R nq ni qu iv ln dc pi qa od bs so fc fp sa lv sh ml)
    (h : ∀ pr' bb' bc' ra' dc' lv' sh' wi', jp_R nq ni qu iv ln dc' pi qa od bs so fc fp sa lv' sh' ml → (∀ i, i < 256 → lv' i = ml i) → (∀ n, n < 256 → sh' n = jp_sh qu ml n) → post (nq, ni, qu, iv, ln, ct, pr', bb', bc', ra', dc', pi, qa, od, cl, bs, wt, ab, co, so, fc, fp, sa, lv', sh', hf, su, wi')) : wpX_decode post (nq, ni, qu, iv, ln, ct, pr, bb, bc, ra, dc, pi, qa, od, cl, bs, wt, ab, co, so, fc, fp, sa, lv, sh, hf, su, wi) := by
  have R0 := R
  obtain ⟨h1, h2, ⟨q, r, Ln, C, N, p, eq, q1, q8, er, r1, r4, eln, hS⟩, h4, h5, h6, h7, h8⟩ := R
  exact jp_xdecode h5 h6 eln er r1 r4 eq q1 q8 h7 hS h8 (fun pr' bb' bc' ra' dc' lv' sh' wi' a1 a2 a3 => h pr' bb' bc' ra' dc' lv' sh' wi' (jp_R_dec R0 fun _ => ⟨a2, a3⟩) a2 a3)
theorem jp_nlt {v m : Int32} {n : Nat} (hm : m.toInt = n) (h1 : ¬ v < 0) (h2 : ¬ m < v) : ∃ j, j ≤ n ∧ v = nI j := nI_of2 hm h1 (Int32.not_lt.mp h2)
theorem i_vc_level {k : Nat} {u : SX} {v : SY} (I : i_Rel k u v) (hk : k + 4 ≤ 2048) (v1 : Int32) (v2 : Int32) (v3 : Int32) : wpX_level (fun r u' => wpY_level (fun r' => r' = r ∧ i_Rel (k + 4) u' v) v v1 v2 v3) u v1 v2 v3 := by
  refine jp_el (P := fun u v => wpX_level (fun r u' => wpY_level (fun r' => r' = r ∧ i_Rel (k + 4) u' v) v v1 v2 v3) u v1 v2 v3) ?_ u v I
  intro nq ni qu iv ln ct pr bb bc ra dc pi qa od cl bs wt ab co so fc fp sa lv sh hf su wi ml R
  unfold wpX_level wpY_level
  dsimp only
  refine br_c (fun z1 => br_t z1 ⟨rfl, jp_in R⟩) (fun z1 => ?_)
  refine br_c (fun z2 => br_f z1 (br_t z2 ⟨rfl, jp_in R⟩)) (fun z2 => ?_)
  refine br_c (fun z3 => br_f z1 (br_f z2 (br_t z3 ⟨rfl, jp_in R⟩))) (fun z3 => ?_)
  refine br_c (fun z4 => br_f z1 (br_f z2 (br_f z3 (br_t z4 ⟨rfl, jp_in R⟩)))) (fun z4 => ?_)
  refine br_c (fun z5 => br_f z1 (br_f z2 (br_f z3 (br_f z4 (br_t z5 ⟨rfl, jp_in R⟩))))) (fun z5 => ?_)
  refine br_c (fun z6 => ?_) (fun z6 => br_f z1 (br_f z2 (br_f z3 (br_f z4 (br_f z5 (br_f z6 ⟨rfl, jp_in R⟩))))))
  refine jp_xdec R (fun pr' bb' bc' ra' dc' lv' sh' wi' R' a2 a3 => ?_)
  obtain ⟨b, hb, rfl⟩ := jp_nlt (n := 3) (by decide) z1 z2
  obtain ⟨x, hx, rfl⟩ := jp_nlt (n := 7) (by decide) z3 z4
  obtain ⟨y, hy, rfl⟩ := nI_of2 (n := 7) (by decide) z5 z6
  have e1 : (nI b * 64 + nI y * 8) + nI x = nI (64 * b + 8 * y + x) := by
    rw [show (64 : Int32) = nI 64 from rfl, show (8 : Int32) = nI 8 from rfl, pk_mul, pk_mul, nI_add, nI_add, Nat.mul_comm, Nat.mul_comm y]
  have e2 : (64 * nI b + 8 * nI y) + nI x = nI (64 * b + 8 * y + x) := by
    rw [show (64 : Int32) = nI 64 from rfl, show (8 : Int32) = nI 8 from rfl, pk_mul, pk_mul, nI_add, nI_add]
  have hi : vp_in (nI (64 * b + 8 * y + x)) 256 := vp_in_nI (by omega) (by decide)
  show vp_in ((nI b * 64 + nI y * 8) + nI x) 256 ∧ _
  rw [e1, e2, nI_clamp (by omega)]
  exact ⟨hi, br_f z1 (br_f z2 (br_f z3 (br_f z4 (br_f z5 (br_t z6 ⟨hi, (a2 _ (by omega)).symm, jp_in R'⟩)))))⟩
theorem i_vc_show {k : Nat} {u : SX} {v : SY} (I : i_Rel k u v) (hk : k + 4 ≤ 2048) (v1 : Int32) (v2 : Int32) : wpX_show (fun r u' => wpY_show (fun r' => r' = r ∧ i_Rel (k + 4) u' v) v v1 v2) u v1 v2 := by
  refine jp_el (P := fun u v => wpX_show (fun r u' => wpY_show (fun r' => r' = r ∧ i_Rel (k + 4) u' v) v v1 v2) u v1 v2) ?_ u v I
  intro nq ni qu iv ln ct pr bb bc ra dc pi qa od cl bs wt ab co so fc fp sa lv sh hf su wi ml R
  unfold wpX_show
  dsimp only
  rcases jp_c16 v1 with ⟨x, hx, rfl⟩ | b1
  · refine jp_xoff0 hx (br_t rfl ?_)
    rcases jp_c16 v2 with ⟨y, hy, rfl⟩ | b2
    · refine jp_xoff0 hy (br_t rfl (jp_xdec R (fun pr' bb' bc' ra' dc' lv' sh' wi' R' a2 a3 => ?_)))
      rw [jp_ix, nI_clamp (by omega)]
      exact ⟨vp_in_nI (by omega) (by decide), jp_yshow hx hy ⟨(a3 _ (by omega)).symm, jp_in R'⟩⟩
    · refine jp_xoff1 b2 (br_f (by decide) ?_)
      unfold wpY_show
      dsimp only
      exact jp_yisP2 hx b2 (br_t rfl ⟨rfl, jp_in R⟩)
  · refine jp_xoff1 b1 (br_f (by decide) ?_)
    unfold wpY_show
    dsimp only
    exact jp_yisP1 b1 (br_t rfl ⟨rfl, jp_in R⟩)
theorem jp_xdiff {post : Int32 → SX → Prop} {nq ni qu iv ln ct pr bb bc ra dc : Int32} {pi qa od cl bs wt ab co so fc fp sa lv sh hf su : Nat → Int32} {wi : Nat → Int64} {ml : Nat → Int32} (R : jp_R nq ni qu iv ln dc pi qa od bs so fc fp sa lv sh ml)
    (h : ∀ pr' bb' bc' ra' dc' lv' sh' wi', jp_R nq ni qu iv ln dc' pi qa od bs so fc fp sa lv' sh' ml → (∀ n, n < 256 → sh' n = jp_sh qu ml n) → post (jp_df pi (jp_sh qu ml) 256) (nq, ni, qu, iv, ln, ct, pr', bb', bc', ra', dc', pi, qa, od, cl, bs, wt, ab, co, so, fc, fp, sa, lv', sh', hf, su, wi')) : wpX_difference post (nq, ni, qu, iv, ln, ct, pr, bb, bc, ra, dc, pi, qa, od, cl, bs, wt, ab, co, so, fc, fp, sa, lv, sh, hf, su, wi) := by
  unfold wpX_difference
  dsimp only
  refine jp_xdec R (fun pr' bb' bc' ra' dc' lv' sh' wi' R' a2 a3 => ⟨257, jp_xdf8 ?_ 256 0 rfl⟩)
  rw [jp_df_congr a3]
  exact h pr' bb' bc' ra' dc' lv' sh' wi' R' a3
theorem i_vc_difference {k : Nat} {u : SX} {v : SY} (I : i_Rel k u v) (hk : k + 4 ≤ 2048) : wpX_difference (fun r u' => wpY_difference (fun r' => r' = r ∧ i_Rel (k + 4) u' v) v) u := by
  refine jp_el (P := fun u v => wpX_difference (fun r u' => wpY_difference (fun r' => r' = r ∧ i_Rel (k + 4) u' v) v) u) ?_ u v I
  intro nq ni qu iv ln ct pr bb bc ra dc pi qa od cl bs wt ab co so fc fp sa lv sh hf su wi ml R
  exact jp_xdiff R (fun pr' bb' bc' ra' dc' lv' sh' wi' R' a3 => jp_ydifference ⟨rfl, jp_in R'⟩)
theorem i_vc_adopt {k : Nat} {u : SX} {v : SY} (I : i_Rel k u v) (hk : k + 4 ≤ 2048) : wpX_adopt (fun r u' => wpY_adopt (fun r' v' => r' = r ∧ i_Rel (k + 4) u' v') v) u := by
  refine jp_el (P := fun u v => wpX_adopt (fun r u' => wpY_adopt (fun r' v' => r' = r ∧ i_Rel (k + 4) u' v') v) u) ?_ u v I
  intro nq ni qu iv ln ct pr bb bc ra dc pi qa od cl bs wt ab co so fc fp sa lv sh hf su wi ml R
  unfold wpX_adopt
  dsimp only
  refine jp_xdiff R (fun pr' bb' bc' ra' dc' lv' sh' wi' R' a3 => ⟨257, ?_⟩)
  have kx := jp_xad7 (post := fun r u' => wpY_adopt (fun r' v' => r' = r ∧ i_Rel (k + 4) u' v') (nq, ni, qu, iv, pi, ml)) (x1 := jp_df pi (jp_sh qu ml) 256) (nq := nq) (ni := ni) (qu := qu) (iv := iv) (ln := ln) (ct := ct) (pr := pr') (bb := bb') (bc := bc') (ra := ra') (dc := dc') (pi := pi) (qa := qa) (od := od) (cl := cl) (bs := bs) (wt := wt) (ab := ab) (co := co) (so := so) (fc := fc) (fp := fp) (sa := sa) (lv := lv') (sh := sh') (hf := hf) (su := su) (wi := wi') ?_ 256 0 rfl
  · rw [jp_pu_0] at kx
    exact kx
  · refine jp_yadopt ⟨rfl, ?_⟩
    rw [jp_pu_congr (n := 256) (F := sh') (F' := jp_sh qu ml) a3]
    refine jp_in (jp_R_pi R' fun i hi => ?_)
    rw [jp_pu_lt hi]
    obtain ⟨q, r, Ln, C, N, p, eq, q1, q8, _⟩ := R'.2.2.1
    rw [eq]
    exact jp_sh_r q1 q8 R'.2.2.2.2.2.2.1 hi
end
section
/-! the constructors -/
def jp_vd (d k : Nat) : Nat := if d % 2 = 0 then 7 - k else k
def jp_og (d k : Nat) : Bool := decide (jp_vd d k ≤ d) && decide (d - jp_vd d k < 8)
def jp_on (m : Nat) : Nat := ((List.range m).filter fun m => jp_og (m / 8) (m % 8)).length
theorem jp_on_t : ∀ m, m < 120 → jp_og (m / 8) (m % 8) = true → jp_on m < 64 ∧ jp_zg (jp_on m) = jp_vd (m / 8) (m % 8) * 8 + (m / 8 - jp_vd (m / 8) (m % 8)) ∧ jp_on (m + 1) = jp_on m + 1 := by decide +kernel
theorem jp_on_f : ∀ m, m < 120 → jp_og (m / 8) (m % 8) = false → jp_on (m + 1) = jp_on m := by decide +kernel
theorem jp_on_e : jp_on 120 = 64 := by decide +kernel
theorem jp_xin271 {post : SX → Prop} {J243 J251 : Int32 → Int32 → (Nat → Int32) → (Nat → Int32) → (Nat → Int32) → (Nat → Int32) → (Nat → Int32) → (Nat → Int32) → (Nat → Int32) → (Nat → Int32) → (Nat → Int32) → (Nat → Int32) → (Nat → Int32) → (Nat → Int32) → (Nat → Int32) → (Nat → Int32) → (Nat → Int32) → (Nat → Int32) → (Nat → Int64) → Prop} {nq ni qu iv ln ct pr bb bc ra dc : Int32} {pi qa od cl bs wt ab co so fc fp sa lv sh hf su : Nat → Int32} {wi : Nat → Int64} {d k v : Nat} (hd : d < 15) (hk : k < 8) (hv : v = jp_vd d k) (ho : ∀ i, i < jp_on (8 * d + k) → od i = nI (jp_zg i))
    (hJ : ∀ od, (∀ i, i < jp_on (8 * d + k + 1) → od i = nI (jp_zg i)) → J251 (nI (jp_on (8 * d + k + 1))) (nI (k + 1)) pi qa od cl bs wt ab co so fc fp sa lv sh hf su wi) : wX_init_271 post J243 J251 (nI (jp_on (8 * d + k))) (nI d) (nI k) (nI v) nq ni qu iv ln ct pr bb bc ra dc pi qa od cl bs wt ab co so fc fp sa lv sh hf su wi := by
  have t := jp_on_t (8 * d + k) (by omega)
  have f := jp_on_f (8 * d + k) (by omega)
  rw [show (8 * d + k) / 8 = d by omega, show (8 * d + k) % 8 = k by omega, ← hv] at t
  rw [show (8 * d + k) / 8 = d by omega, show (8 * d + k) % 8 = k by omega] at f
  have v8 : v < 8 := by rw [hv]; unfold jp_vd; split <;> omega
  by_cases z : v ≤ d
  · refine nm_r (e' := nI (d - v)) (pk_sub z) (br_f (nI_pos (by omega)) ?_)
    refine pk_le 8 (d - v) (fun z2 => nm_r (nI_1 k) ?_) (fun z2 => ?_)
    · have q : jp_og d k = false := by
        unfold jp_og
        rw [← hv, decide_eq_true z, decide_eq_false (by omega)]
        rfl
      have e := f q
      rw [← e] at ho ⊢
      exact hJ od ho
    · have q : jp_og d k = true := by
        unfold jp_og
        rw [← hv, decide_eq_true z, decide_eq_true z2]
        rfl
      obtain ⟨t1, t2, t3⟩ := t q
      have e : nI v * 8 + nI (d - v) = nI (v * 8 + (d - v)) := by rw [show (8 : Int32) = nI 8 from rfl, pk_mul, nI_add]
      rw [e, ← t2, nI_clamp (by omega)]
      refine ⟨vp_in_nI t1 (by decide), nm_e (nm_r (nI_1 _) (nm_r (nI_1 k) ?_))⟩
      rw [← t3]
      refine hJ _ (fun i hi => ?_)
      by_cases e : i = jp_on (8 * d + k)
      · rw [e, pk_us]
      · rw [pk_un e]; exact ho i (by omega)
  · refine nm_e (br_t (pk_sneg (by omega) (by omega)) (nm_r (nI_1 k) ?_))
    have q : jp_og d k = false := by
      unfold jp_og
      rw [← hv, decide_eq_false z]
      rfl
    have e := f q
    rw [← e] at ho ⊢
    exact hJ od ho
theorem jp_xin251 {post : SX → Prop} {J243 : Int32 → Int32 → (Nat → Int32) → (Nat → Int32) → (Nat → Int32) → (Nat → Int32) → (Nat → Int32) → (Nat → Int32) → (Nat → Int32) → (Nat → Int32) → (Nat → Int32) → (Nat → Int32) → (Nat → Int32) → (Nat → Int32) → (Nat → Int32) → (Nat → Int32) → (Nat → Int32) → (Nat → Int32) → (Nat → Int64) → Prop} {nq ni qu iv ln ct pr bb bc ra dc : Int32} {pi qa cl bs wt ab co so fc fp sa lv sh hf su : Nat → Int32} {wi : Nat → Int64} {d : Nat} (hd : d < 15)
    (hJ : ∀ od, (∀ i, i < jp_on (8 * (d + 1)) → od i = nI (jp_zg i)) → J243 (nI (jp_on (8 * (d + 1)))) (nI (d + 1)) pi qa od cl bs wt ab co so fc fp sa lv sh hf su wi) :
    ∀ (e k : Nat) (od : Nat → Int32), k + e = 8 → (∀ i, i < jp_on (8 * d + k) → od i = nI (jp_zg i)) → wX_init_251 post J243 (nI d) nq ni qu iv ln ct pr bb bc ra dc (e + 1) (nI (jp_on (8 * d + k))) (nI k) pi qa od cl bs wt ab co so fc fp sa lv sh hf su wi := by
  intro e
  induction e with
  | zero =>
    intro k od hk ho
    obtain rfl : k = 8 := by omega
    exact br_t (by decide) (nm_r (nI_1 d) (hJ od ho))
  | succ e ih =>
    intro k od hk ho
    have eu : nI d &&& 1 = nI (d % 2) := pk_andN (by omega) 1 (by decide)
    have e7 : 7 - nI k = nI (7 - k) := pk_sub (a := 7) (by omega)
    refine br_f (nI_ge (b := 8) (by omega) (by decide)) ?_
    rw [eu, e7]
    refine pk_eq (d % 2) 0 (fun z => ?_) (fun z => ?_)
    · exact jp_xin271 hd (by omega) (if_pos z).symm ho (fun od ho => ih (k + 1) od (by omega) ho)
    · exact jp_xin271 hd (by omega) (if_neg z).symm ho (fun od ho => ih (k + 1) od (by omega) ho)
theorem jp_xin243 {post : SX → Prop} {nq ni qu iv ln ct pr bb bc ra dc : Int32} {pi qa cl bs wt ab co so fc fp sa lv sh hf su : Nat → Int32} {wi : Nat → Int64}
    (h : ∀ od, (∀ i, i < 64 → od i = nI (jp_zg i)) → post (1, 4, 1, 4, 2, ct, pr, bb, bc, ra, dc, pi, qa, od, cl, upd (upd bs 0 255) 1 208, wt, ab, co, so, fc, fp, sa, lv, sh, hf, su, wi)) :
    ∀ (e d : Nat) (od : Nat → Int32), d + e = 15 → (∀ i, i < jp_on (8 * d) → od i = nI (jp_zg i)) → wX_init_243 post nq ni qu iv ln ct pr bb bc ra dc (e + 1) (nI (jp_on (8 * d))) (nI d) pi qa od cl bs wt ab co so fc fp sa lv sh hf su wi := by
  intro e
  induction e with
  | zero =>
    intro d od hd ho
    obtain rfl : d = 15 := by omega
    rw [jp_on_e] at ho
    exact br_t (by decide) (nm_e (nm_e (h od ho)))
  | succ e ih =>
    intro d od hd ho
    exact br_f (nI_ge (b := 15) (by omega) (by decide)) ⟨9, jp_xin251 (by omega) (fun od ho => ih (d + 1) od (by omega) ho) 8 0 od rfl ho⟩
theorem jp_xin151 {post : SX → Prop} {nq ni qu iv ln ct pr bb bc ra dc : Int32} {pi qa od cl bs wt ab co so fc fp sa lv sh hf su : Nat → Int32} {wi : Nat → Int64}
    (h : ∀ od', (∀ i, i < 64 → od' i = nI (jp_zg i)) → post (1, 4, 1, 4, 2, ct, pr, bb, bc, ra, dc, jp_pu (fun _ => 128) 256 pi, upd (upd (upd (upd (upd (upd (upd (upd qa 0 64) 1 63) 2 59) 3 53) 4 45) 5 36) 6 24) 7 12, od', cl, upd (upd bs 0 255) 1 208, wt, ab, co, so, fc, fp, sa, lv, sh, hf, su, wi)) :
    ∀ e n : Nat, n + e = 256 → wX_init_151 post nq ni qu iv ln ct pr bb bc ra dc (e + 1) (nI n) (jp_pu (fun _ => 128) n pi) qa od cl bs wt ab co so fc fp sa lv sh hf su wi := by
  intro e
  induction e with
  | zero =>
    intro n hn
    obtain rfl : n = 256 := by omega
    refine br_t (by decide) (nm_e (nm_e (nm_e (nm_e (nm_e (nm_e (nm_e (nm_e ⟨16, ?_⟩))))))))
    exact jp_xin243 h 15 0 od rfl (fun i hi => absurd hi (by rw [show jp_on (8 * 0) = 0 from rfl]; omega))
  | succ e ih =>
    intro n hn
    refine br_f (nI_ge (b := 256) (by omega) (by decide)) ?_
    rw [nI_clamp (by omega)]
    exact ⟨vp_in_nI (by omega) (by decide), nm_r (jp_pu_s rfl) (nm_r (nI_1 n) (ih (n + 1) (by omega)))⟩
theorem jp_yin24 {post : SY → Prop} {mq mi mu mv : Int32} {mp ml : Nat → Int32} (h : post (1, 4, 1, 4, jp_pu (fun _ => 128) 256 mp, ml)) : ∀ e n : Nat, n + e = 256 → wY_init_24 post mq mi mu mv (e + 1) (nI n) (jp_pu (fun _ => 128) n mp) ml := by
  intro e
  induction e with
  | zero =>
    intro n hn
    obtain rfl : n = 256 := by omega
    exact br_t (by decide) h
  | succ e ih =>
    intro n hn
    refine br_f (nI_ge (b := 256) (by omega) (by decide)) ?_
    rw [nI_clamp (by omega)]
    exact ⟨vp_in_nI (by omega) (by decide), nm_r (jp_pu_s rfl) (nm_r (nI_1 n) (ih (n + 1) (by omega)))⟩
theorem jp_qa0 : ∀ t, t < 9 → upd (upd (upd (upd (upd (upd (upd (upd (fun _ => 0) 0 64) 1 63) 2 59) 3 53) 4 45) 5 36) 6 24) 7 12 t = jp_qI t := by decide +kernel
theorem jp_St0 {so fc fp sa : Nat → Int32} : jp_Stored 4 (fun _ => 0) (upd (upd (fun _ => 0) 0 255) 1 208) so fc fp sa (fun _ => 0) (fun _ => 0) (fun s => 2 * s) 2 := by
  refine ⟨by decide, rfl, rfl, fun s hs => ?_⟩
  obtain rfl : s = 0 := by
    have : 3 / 4 = 0 := rfl
    omega
  exact ⟨⟨[], 0, rfl, rfl, rfl, rfl, Or.inl ⟨rfl, fun _ _ _ => rfl⟩⟩, by decide⟩
theorem jp_R0 {od so fc fp sa lv sh : Nat → Int32} (h : ∀ i, i < 64 → od i = nI (jp_zg i)) :
    jp_R 1 4 1 4 2 0 (jp_pu (fun _ => 128) 256 (fun _ => 0)) (upd (upd (upd (upd (upd (upd (upd (upd (fun _ => 0) 0 64) 1 63) 2 59) 3 53) 4 45) 5 36) 6 24) 7 12) od (upd (upd (fun _ => 0) 0 255) 1 208) so fc fp sa lv sh (fun _ => 0) := by
  refine ⟨⟨1, rfl, by decide, by decide⟩, ⟨4, rfl, by decide, by decide⟩, ⟨1, 4, 2, fun _ => 0, fun _ => 0, fun s => 2 * s, rfl, by decide, by decide, rfl, by decide, by decide, rfl, jp_St0⟩, fun i hi => ?_, jp_qa0, h, fun i _ => ?_, fun z => absurd rfl z⟩
  · rw [jp_pu_lt hi]; decide
  · rw [jp_ab0]; omega
theorem i_vc0 : wpX_init (fun u => wpY_init (fun v => i_Rel 0 u v)) := by
  have k := jp_xin151 (post := fun u => wpY_init (fun v => i_Rel 0 u v)) (nq := 0) (ni := 0) (qu := 0) (iv := 0) (ln := 0) (ct := 0) (pr := 0) (bb := 0) (bc := 0) (ra := 0) (dc := 0) (pi := fun _ => 0) (qa := fun _ => 0) (od := fun _ => 0) (cl := fun _ => 0) (bs := fun _ => 0) (wt := fun _ => 0) (ab := fun _ => 0) (co := fun _ => 0) (so := fun _ => 0) (fc := fun _ => 0) (fp := fun _ => 0) (sa := fun _ => 0) (lv := fun _ => 0) (sh := fun _ => 0) (hf := fun _ => 0) (su := fun _ => 0) (wi := fun _ => 0) (fun od' ho => ?_) 256 0 rfl
  · rw [jp_pu_0] at k
    exact ⟨257, k⟩
  · have y := jp_yin24 (post := fun v => i_Rel 0 (1, 4, 1, 4, 2, 0, 0, 0, 0, 0, 0, jp_pu (fun _ => 128) 256 (fun _ => 0), upd (upd (upd (upd (upd (upd (upd (upd (fun _ => 0) 0 64) 1 63) 2 59) 3 53) 4 45) 5 36) 6 24) 7 12, od', fun _ => 0, upd (upd (fun _ => 0) 0 255) 1 208, fun _ => 0, fun _ => 0, fun _ => 0, fun _ => 0, fun _ => 0, fun _ => 0, fun _ => 0, fun _ => 0, fun _ => 0, fun _ => 0, fun _ => 0, fun _ => 0) v) (mq := 0) (mi := 0) (mu := 0) (mv := 0) (mp := fun _ => 0) (ml := fun _ => 0) (jp_in (jp_R0 ho)) 256 0 rfl
    rw [jp_pu_0] at y
    exact ⟨257, y⟩
end
